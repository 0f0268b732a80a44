section
/-! rows of the kit (kit/rows), pasted -/
theorem pk_us {f : Nat → Int32} {k : Nat} {x : Int32} : upd f k x k = x := if_pos rfl
theorem pk_un {f : Nat → Int32} {k j : Nat} {x : Int32} (h : j ≠ k) : upd f k x j = f j := if_neg h
theorem pk_sub {a b : Nat} (h : b ≤ a) : nI a - nI b = nI (a - b) := by
  obtain ⟨c, rfl⟩ : ∃ c, a = c + b := ⟨a - b, by omega⟩
  rw [← nI_add, Int32.add_sub_cancel, Nat.add_sub_cancel]
theorem pk_m1 (n : Nat) : nI (n + 1) + (-1) = nI n := by
  rw [← nI_1, Int32.add_assoc, show (1 : Int32) + (-1) = 0 from rfl, Int32.add_zero]
theorem pk_mul (a b : Nat) : nI a * nI b = nI (a * b) := (Int32.ofNat_mul a b).symm
theorem pk_ix (x : Int32) {n : Nat} (hn : n < 2 ^ 31) : x < 0 ∨ nI n ≤ x ∨ ∃ j : Nat, j < n ∧ x = nI j := by
  by_cases h : x < 0
  · exact Or.inl h
  · obtain ⟨j, hj, rfl⟩ := nI_of h
    by_cases h2 : j < n
    · exact Or.inr (Or.inr ⟨j, h2, rfl⟩)
    · exact Or.inr (Or.inl (nI_le (by omega) hj))
theorem pk_le {x y : Int32} {A B : Prop} (a b : Nat) (f : a ≤ b → A) (g : b < a → B) (hx : x = nI a := by rfl) (hy : y = nI b := by rfl) (ha : a < 2 ^ 31 := by omega) (hb : b < 2 ^ 31 := by omega) : (x ≤ y → A) ∧ (¬ x ≤ y → B) := by
  subst hx hy
  rw [nI_leI ha hb]
  exact ⟨f, fun z => g (by omega)⟩
theorem pk_lt {x y : Int32} {A B : Prop} (a b : Nat) (f : a < b → A) (g : b ≤ a → B) (hx : x = nI a := by rfl) (hy : y = nI b := by rfl) (ha : a < 2 ^ 31 := by omega) (hb : b < 2 ^ 31 := by omega) : (x < y → A) ∧ (¬ x < y → B) := by
  subst hx hy
  rw [nI_ltI ha hb]
  exact ⟨f, fun z => g (by omega)⟩
theorem pk_eq {x y : Int32} {A B : Prop} (a b : Nat) (f : a = b → A) (g : a ≠ b → B) (hx : x = nI a := by rfl) (hy : y = nI b := by rfl) (ha : a < 2 ^ 31 := by omega) (hb : b < 2 ^ 31 := by omega) : (x = y → A) ∧ (¬ x = y → B) := by
  subst hx hy
  rw [nI_eq ha hb]
  exact ⟨f, g⟩
theorem pk_in {x : Int32} (n N : Nat) (h : n < N) (hx : x = nI n := by rfl) (hN : N < 2 ^ 31 := by omega) : vp_in x N := by
  subst hx
  exact vp_in_nI h hN
theorem pk_cl {x : Int32} (n : Nat) (hx : x = nI n := by rfl) (h : n < 2 ^ 31 := by omega) : x.toNatClampNeg = n := by
  subst hx
  exact nI_clamp h
theorem pk_tn {n : Nat} (h : n < 2 ^ 32) : (nI n).toBitVec.toNat = n := Nat.mod_eq_of_lt h
theorem pk_and (x : Int32) {m : Int32} (k : Nat) (hm : m.toBitVec.toNat = 2 ^ k - 1) : x &&& m = nI (x.toBitVec.toNat % 2 ^ k) := by
  apply Int32.toBitVec_inj.mp
  apply BitVec.eq_of_toNat_eq
  rw [Int32.toBitVec_and, BitVec.toNat_and, hm, Nat.and_two_pow_sub_one_eq_mod]
  show _ = (BitVec.ofNat 32 _).toNat
  rw [BitVec.toNat_ofNat]
  exact (Nat.mod_eq_of_lt (Nat.lt_of_le_of_lt (Nat.mod_le _ _) x.toBitVec.isLt)).symm
theorem pk_andN {n : Nat} (h : n < 2 ^ 32) {m : Int32} (k : Nat) (hm : m.toBitVec.toNat = 2 ^ k - 1) : nI n &&& m = nI (n % 2 ^ k) := by
  rw [pk_and _ k hm, pk_tn h]
theorem pk_andE (x : Int32) {m : Int32} (k : Nat) (hm : m.toBitVec.toNat = 2 ^ k - 1) : ∃ j : Nat, j < 2 ^ k ∧ x &&& m = nI j := ⟨_, Nat.mod_lt _ (Nat.two_pow_pos k), pk_and x k hm⟩
theorem pk_andIn (x : Int32) {m : Int32} (k : Nat) (hm : m.toBitVec.toNat = 2 ^ k - 1) (hk : k ≤ 30) : vp_in (x &&& m) (2 ^ k) := by
  obtain ⟨j, hj, e⟩ := pk_andE x k hm
  rw [e]
  exact vp_in_nI hj (Nat.lt_of_le_of_lt (Nat.pow_le_pow_right (by decide) hk) (by decide))
theorem pk_shl (a s : Int32) (k : Nat) (hs : (s.toBitVec.smod 32).toNat = k) : (a <<< s).toBitVec.toNat = a.toBitVec.toNat * 2 ^ k % 2 ^ 32 := by
  show (a.toBitVec <<< (s.toBitVec.smod 32).toNat).toNat = _
  rw [hs, BitVec.toNat_shiftLeft, Nat.shiftLeft_eq]
theorem pk_shlN {n : Nat} (s : Int32) (k : Nat) (hs : (s.toBitVec.smod 32).toNat = k) (h : n * 2 ^ k < 2 ^ 32) : nI n <<< s = nI (n * 2 ^ k) := by
  apply Int32.toBitVec_inj.mp
  apply BitVec.eq_of_toNat_eq
  have hn : n < 2 ^ 32 := Nat.lt_of_le_of_lt (Nat.le_mul_of_pos_right n (Nat.two_pow_pos k)) h
  rw [pk_shl _ _ k hs, pk_tn hn, pk_tn h, Nat.mod_eq_of_lt h]
theorem pk_vb (z : Int32) : vp_nar .byte z.toInt8.toInt32 = z.toInt8.toInt32 := by rw [vp_nar_byte]; simp
theorem pk_least (P : Nat → Prop) (h : ∃ k, P k) : ∃ k, P k ∧ ∀ j, j < k → ¬ P j := by
  obtain ⟨k, hk⟩ := h
  induction k using Nat.strongRecOn with
  | ind k ih =>
    by_cases e : ∃ j, j < k ∧ P j
    · obtain ⟨j, hj, pj⟩ := e
      exact ih j hj pj
    · exact ⟨k, hk, fun j hj pj => e ⟨j, hj, pj⟩⟩
def bt (x : Int32) (i : Nat) : Bool := x.toBitVec.getLsbD i
theorem b_ext {x y : Int32} (h : ∀ i, i < 32 → bt x i = bt y i) : x = y := Int32.toBitVec_inj.mp (BitVec.eq_of_getLsbD_eq (fun i hi => h i hi))
theorem b_or (x y : Int32) (i : Nat) : bt (x ||| y) i = (bt x i || bt y i) := by unfold bt; rw [Int32.toBitVec_or, BitVec.getLsbD_or]
theorem b_and (x y : Int32) (i : Nat) : bt (x &&& y) i = (bt x i && bt y i) := by unfold bt; rw [Int32.toBitVec_and, BitVec.getLsbD_and]
theorem b_xor (x y : Int32) (i : Nat) : bt (x ^^^ y) i = (bt x i ^^ bt y i) := by unfold bt; rw [Int32.toBitVec_xor, BitVec.getLsbD_xor]
theorem b_big {x : Int32} {i : Nat} (h : 32 ≤ i) : bt x i = false := BitVec.getLsbD_of_ge _ _ h
theorem b_0 (i : Nat) : bt 0 i = false := BitVec.getLsbD_zero
theorem s_l : ∀ n, n < 32 → ((nI n &&& 31).toBitVec.smod 32).toNat = n := by decide +kernel
theorem b_shl (n : Nat) (hn : n < 32) (x : Int32) {i : Nat} (hi : i < 32) : bt (x <<< (nI n &&& 31)) i = (decide (n ≤ i) && bt x (i - n)) := by
  unfold bt
  rw [Int32.toBitVec_shiftLeft]
  show (x.toBitVec <<< ((nI n &&& 31).toBitVec.smod 32).toNat).getLsbD i = _
  rw [s_l n hn, BitVec.getLsbD_shiftLeft]
  rcases Nat.lt_or_ge i n with h | h
  · simp [h, Nat.not_le.mpr h]
  · simp [hi, h, Nat.not_lt.mpr h]
theorem b_sshr (n : Nat) (hn : n < 32) (x : Int32) {i : Nat} (hi : i < 32) : bt (x >>> (nI n &&& 31)) i = if n + i < 32 then bt x (n + i) else bt x 31 := by
  unfold bt
  rw [Int32.toBitVec_shiftRight]
  show (x.toBitVec.sshiftRight ((nI n &&& 31).toBitVec.smod 32).toNat).getLsbD i = _
  rw [s_l n hn, BitVec.getLsbD_sshiftRight, BitVec.msb_eq_getLsbD_last]
  simp [hi]
theorem nx_and (a b : Nat) : nI a &&& nI b = nI (a &&& b) := by
  apply Int32.toBitVec_inj.1
  show BitVec.ofNat 32 a &&& BitVec.ofNat 32 b = BitVec.ofNat 32 (a &&& b)
  apply BitVec.eq_of_getLsbD_eq
  intro i hi
  simp [hi]
end
section
/-! sums of ints over i < n, and the weight of a cut -/
def zs_S (f : Nat → Int) : Nat → Int
  | 0 => 0
  | n + 1 => zs_S f n + f n
theorem zs_0 (f : Nat → Int) : zs_S f 0 = 0 := rfl
theorem zs_s (f : Nat → Int) (n : Nat) : zs_S f (n + 1) = zs_S f n + f n := rfl
theorem zs_cg {f g : Nat → Int} {n : Nat} (h : ∀ i, i < n → f i = g i) : zs_S f n = zs_S g n := by
  induction n with
  | zero => rfl
  | succ n ih => rw [zs_s, zs_s, ih (fun i hi => h i (by omega)), h n (by omega)]
theorem zs_le {f g : Nat → Int} {n : Nat} (h : ∀ i, i < n → f i ≤ g i) : zs_S f n ≤ zs_S g n := by
  induction n with
  | zero => exact Int.le_refl _
  | succ n ih =>
    have a := ih (fun i hi => h i (by omega))
    have b := h n (by omega)
    rw [zs_s, zs_s]
    omega
theorem zs_z (n : Nat) : zs_S (fun _ => 0) n = 0 := by
  induction n with
  | zero => rfl
  | succ n ih => rw [zs_s, ih]; rfl
theorem zs_z' {f : Nat → Int} {n : Nat} (h : ∀ i, i < n → f i = 0) : zs_S f n = 0 := by
  rw [zs_cg (g := fun _ => 0) h, zs_z]
theorem zs_nn {f : Nat → Int} {n : Nat} (h : ∀ i, i < n → 0 ≤ f i) : 0 ≤ zs_S f n := by
  rw [← zs_z n]
  exact zs_le h
theorem zs_add (f g : Nat → Int) (n : Nat) : zs_S (fun i => f i + g i) n = zs_S f n + zs_S g n := by
  induction n with
  | zero => rfl
  | succ n ih => rw [zs_s, zs_s, zs_s, ih]; omega
theorem zs_neg (f : Nat → Int) (n : Nat) : zs_S (fun i => - f i) n = - zs_S f n := by
  induction n with
  | zero => rfl
  | succ n ih => rw [zs_s, zs_s, ih]; omega
theorem zs_comm (f : Nat → Nat → Int) (n m : Nat) : zs_S (fun i => zs_S (fun j => f i j) m) n = zs_S (fun j => zs_S (fun i => f i j) n) m := by
  induction n with
  | zero => exact (zs_z m).symm
  | succ n ih =>
    rw [zs_s, ih, ← zs_add]
    rfl
theorem zs_eq {f g : Nat → Int} {n : Nat} (h : ∀ i, i < n → f i ≤ g i) (e : zs_S g n ≤ zs_S f n) : ∀ i, i < n → f i = g i := by
  induction n with
  | zero => exact fun i hi => absurd hi (by omega)
  | succ n ih =>
    have h1 := h n (by omega)
    have h2 := zs_le (f := f) (g := g) (n := n) (fun i hi => h i (by omega))
    rw [zs_s, zs_s] at e
    intro i hi
    rcases Nat.lt_or_ge i n with z | z
    · exact ih (fun i hi => h i (by omega)) (by omega) i z
    · have : i = n := by omega
      subst this
      omega
theorem zs_one {k n : Nat} (x : Int) (hk : k < n) : zs_S (fun i => if i = k then x else 0) n = x := by
  induction n with
  | zero => omega
  | succ n ih =>
    rw [zs_s]
    by_cases e : n = k
    · subst e
      rw [zs_z' (fun i hi => if_neg (by omega)), if_pos rfl]
      omega
    · rw [ih (by omega), if_neg e]
      omega
theorem zs_one' {k n : Nat} {x : Int} (hx : 0 ≤ x) : zs_S (fun i => if i = k then x else 0) n ≤ x := by
  rcases Nat.lt_or_ge k n with h | h
  · rw [zs_one x h]; exact Int.le_refl _
  · rw [zs_z' (fun i hi => if_neg (by omega))]; exact hx
theorem zs_b50 {f : Nat → Int} {n : Nat} (h : ∀ i, i < n → f i ≤ 50) : zs_S f n ≤ 50 * (n : Int) := by
  induction n with
  | zero => rw [zs_0]; omega
  | succ n ih =>
    have a := ih (fun i hi => h i (by omega))
    have b := h n (by omega)
    rw [zs_s]
    omega
theorem zs_b400 {f : Nat → Int} {n : Nat} (h : ∀ i, i < n → f i ≤ 400) : zs_S f n ≤ 400 * (n : Int) := by
  induction n with
  | zero => rw [zs_0]; omega
  | succ n ih =>
    have a := ih (fun i hi => h i (by omega))
    have b := h n (by omega)
    rw [zs_s]
    omega
/-- f with m more at b -/
theorem zs_more {f g : Nat → Int} {n b : Nat} {m : Int} (hb : b < n) (h : ∀ i, i < n → g i = f i + if i = b then m else 0) : zs_S g n = zs_S f n + m := by
  rw [zs_cg h, zs_add, zs_one m hb]
/-- the tail of a sum that is zero from k on -/
theorem zs_tail {f : Nat → Int} {k n : Nat} (hk : k ≤ n) (h : ∀ i, k ≤ i → i < n → f i = 0) : zs_S f n = zs_S f k := by
  induction n with
  | zero =>
    have : k = 0 := by omega
    rw [this]
  | succ n ih =>
    rcases Nat.lt_or_ge n k with z | z
    · have : k = n + 1 := by omega
      rw [this]
    · rw [zs_s, ih z (fun i h1 h2 => h i h1 (by omega)), h n z (by omega)]
      omega
/-- the weight of a cut -/
def dw_D (n : Nat) (c : Nat → Nat → Int) (S : Nat → Bool) : Int := zs_S (fun u => zs_S (fun v => if S u && !S v then c u v else 0) n) n
/-- what is held of the capacities -/
def dw_C (n : Nat) (c : Nat → Nat → Int) : Prop := n ≤ 8 ∧ ∀ u v, u < n → v < n → 0 ≤ c u v ∧ c u v ≤ 50 ∧ c u v = c v u
theorem dw_cg {n : Nat} {c : Nat → Nat → Int} {S T : Nat → Bool} (h : ∀ u, u < n → S u = T u) : dw_D n c S = dw_D n c T := by
  unfold dw_D
  apply zs_cg
  intro u hu
  apply zs_cg
  intro v hv
  rw [h u hu, h v hv]
theorem dw_nn {n : Nat} {c : Nat → Nat → Int} (hC : dw_C n c) (S : Nat → Bool) : 0 ≤ dw_D n c S := by
  unfold dw_D
  apply zs_nn
  intro u hu
  apply zs_nn
  intro v hv
  have := (hC.2 u v hu hv).1
  try dsimp only
  split <;> omega
theorem dw_row {n : Nat} {c : Nat → Nat → Int} (hC : dw_C n c) (S : Nat → Bool) {u : Nat} (hu : u < n) : zs_S (fun v => if S u && !S v then c u v else 0) n ≤ 400 := by
  have h := zs_b50 (f := fun v => if S u && !S v then c u v else 0) (n := n) (fun v hv => by
    have := (hC.2 u v hu hv).2.1
    try dsimp only
    split <;> omega)
  have := hC.1
  omega
theorem dw_bd {n : Nat} {c : Nat → Nat → Int} (hC : dw_C n c) (S : Nat → Bool) : dw_D n c S ≤ 3200 := by
  have h := zs_b400 (n := n) (fun u hu => dw_row hC S hu)
  have := hC.1
  unfold dw_D
  omega
theorem dw_not {n : Nat} {c : Nat → Nat → Int} (hC : dw_C n c) (S : Nat → Bool) : dw_D n c (fun u => !S u) = dw_D n c S := by
  unfold dw_D
  rw [zs_comm]
  apply zs_cg
  intro u hu
  apply zs_cg
  intro v hv
  try dsimp only
  rw [(hC.2 v u hv hu).2.2]
  rcases Bool.eq_false_or_eq_true (S u) with a | a <;> rcases Bool.eq_false_or_eq_true (S v) with b | b <;> simp [a, b]
theorem dw_sub {n : Nat} {c : Nat → Nat → Int} (hC : dw_C n c) (S T : Nat → Bool) : dw_D n c (fun u => S u && T u) + dw_D n c (fun u => S u || T u) ≤ dw_D n c S + dw_D n c T := by
  unfold dw_D
  rw [← zs_add, ← zs_add]
  apply zs_le
  intro u hu
  try dsimp only
  rw [← zs_add, ← zs_add]
  apply zs_le
  intro v hv
  have := (hC.2 u v hu hv).1
  try dsimp only
  rcases Bool.eq_false_or_eq_true (S u) with a | a <;> rcases Bool.eq_false_or_eq_true (S v) with b | b <;> rcases Bool.eq_false_or_eq_true (T u) with d | d <;> rcases Bool.eq_false_or_eq_true (T v) with e | e <;> simp [a, b, d, e] <;> omega
theorem dw_pt {n : Nat} {c : Nat → Nat → Int} (hC : dw_C n c) (k : Nat) : dw_D n c (fun u => decide (u = k)) ≤ 400 := by
  have h : dw_D n c (fun u => decide (u = k)) ≤ zs_S (fun i => if i = k then 400 else 0) n := by
    unfold dw_D
    apply zs_le
    intro u hu
    by_cases e : u = k
    · try dsimp only
      rw [if_pos e]
      exact dw_row hC (fun u => decide (u = k)) hu
    · try dsimp only
      rw [if_neg e, zs_z' (fun v _ => by simp [e])]
      exact Int.le_refl _
  exact Int.le_trans h (zs_one' (by decide))
end
section
/-! the smallest cut between two points -/
def lm_M (n : Nat) (c : Nat → Nat → Int) (u v : Nat) (L : Int) : Prop := (∃ S : Nat → Bool, S u = true ∧ S v = false ∧ dw_D n c S = L) ∧ ∀ S : Nat → Bool, S u = true → S v = false → L ≤ dw_D n c S
theorem lm_ex {n : Nat} {c : Nat → Nat → Int} (hC : dw_C n c) {u v : Nat} (h : u ≠ v) : ∃ L, lm_M n c u v L := by
  obtain ⟨k, ⟨S, a, b, e⟩, hk⟩ := pk_least (fun k : Nat => ∃ S : Nat → Bool, S u = true ∧ S v = false ∧ dw_D n c S = (k : Int)) ⟨(dw_D n c (fun i => decide (i = u))).toNat, fun i => decide (i = u), by simp, by simp; omega, by
    have := dw_nn hC (fun i => decide (i = u))
    omega⟩
  refine ⟨k, ⟨S, a, b, e⟩, fun T t1 t2 => ?_⟩
  have h0 := dw_nn hC T
  rcases Int.lt_or_le (dw_D n c T) k with z | z
  · exact absurd ⟨T, t1, t2, by omega⟩ (hk (dw_D n c T).toNat (by omega))
  · exact z
noncomputable def lm_L (n : Nat) (c : Nat → Nat → Int) (u v : Nat) : Int := @dite Int (∃ L, lm_M n c u v L) (Classical.propDecidable _) (fun h => h.choose) (fun _ => 1000)
theorem lm_s {n : Nat} {c : Nat → Nat → Int} (hC : dw_C n c) {u v : Nat} (h : u ≠ v) : lm_M n c u v (lm_L n c u v) := by
  unfold lm_L
  rw [dif_pos (lm_ex hC h)]
  exact (lm_ex hC h).choose_spec
theorem lm_self {n : Nat} {c : Nat → Nat → Int} (u : Nat) : lm_L n c u u = 1000 := by
  unfold lm_L
  exact dif_neg (fun ⟨L, ⟨S, a, b, _⟩, _⟩ => by rw [a] at b; cases b)
theorem lm_uq {n : Nat} {c : Nat → Nat → Int} {u v : Nat} {L K : Int} (h : lm_M n c u v L) (k : lm_M n c u v K) : L = K := by
  obtain ⟨⟨S, a, b, e⟩, m⟩ := h
  obtain ⟨⟨T, a', b', e'⟩, m'⟩ := k
  have h1 := m T a' b'
  have h2 := m' S a b
  omega
theorem lm_eq {n : Nat} {c : Nat → Nat → Int} (hC : dw_C n c) {u v : Nat} {L : Int} (h : lm_M n c u v L) : lm_L n c u v = L := by
  refine lm_uq (lm_s hC ?_) h
  intro e
  obtain ⟨⟨S, a, b, _⟩, _⟩ := h
  rw [← e, a] at b
  cases b
/-- every cut between u and v is at least as heavy -/
theorem lm_le {n : Nat} {c : Nat → Nat → Int} (hC : dw_C n c) {u v : Nat} {S : Nat → Bool} (a : S u = true) (b : S v = false) : lm_L n c u v ≤ dw_D n c S := by
  refine (lm_s hC ?_).2 S a b
  intro e
  rw [← e, a] at b
  cases b
theorem lm_sy {n : Nat} {c : Nat → Nat → Int} (hC : dw_C n c) (u v : Nat) : lm_L n c u v = lm_L n c v u := by
  by_cases e : u = v
  · rw [e]
  · apply lm_eq hC
    obtain ⟨⟨S, a, b, d⟩, m⟩ := lm_s hC (u := v) (v := u) (fun z => e z.symm)
    refine ⟨⟨fun i => !S i, by simp [b], by simp [a], (dw_not hC S).trans d⟩, fun T t1 t2 => ?_⟩
    rw [← dw_not hC T]
    exact m (fun i => !T i) (by simp [t2]) (by simp [t1])
/-- a cut that parts u and v either way -/
theorem lm_le' {n : Nat} {c : Nat → Nat → Int} (hC : dw_C n c) {u v : Nat} {S : Nat → Bool} (a : S u ≠ S v) : lm_L n c u v ≤ dw_D n c S := by
  cases hu : S u
  · rw [lm_sy hC]
    refine lm_le hC ?_ hu
    cases hv : S v
    · rw [hu, hv] at a; exact absurd rfl a
    · rfl
  · refine lm_le hC hu ?_
    cases hv : S v
    · rfl
    · rw [hu, hv] at a; exact absurd rfl a
theorem lm_ul {n : Nat} {c : Nat → Nat → Int} (hC : dw_C n c) {u v : Nat} (w : Nat) (h : u ≠ v) : lm_L n c u w ≤ lm_L n c u v ∨ lm_L n c w v ≤ lm_L n c u v := by
  obtain ⟨⟨S, a, b, e⟩, m⟩ := lm_s hC h
  rw [← e]
  cases hw : S w
  · exact Or.inl (lm_le hC a hw)
  · exact Or.inr (lm_le hC hw b)
theorem lm_nn {n : Nat} {c : Nat → Nat → Int} (hC : dw_C n c) (u v : Nat) : 0 ≤ lm_L n c u v := by
  by_cases e : u = v
  · rw [e, lm_self]; decide
  · obtain ⟨⟨S, _, _, d⟩, m⟩ := lm_s hC e
    rw [← d]
    exact dw_nn hC S
theorem lm_bd {n : Nat} {c : Nat → Nat → Int} (hC : dw_C n c) {u v : Nat} (h : u ≠ v) : lm_L n c u v ≤ 400 :=
  Int.le_trans (lm_le hC (S := fun i => decide (i = u)) (by simp) (by simp; omega)) (dw_pt hC u)
theorem lm_bd' {n : Nat} {c : Nat → Nat → Int} (hC : dw_C n c) (u v : Nat) : lm_L n c u v ≤ 1000 := by
  by_cases e : u = v
  · rw [e, lm_self]; decide
  · have := lm_bd hC e
    omega
/-! ===== the tree, point after point ===== -/
/-- the tree of the points below x -/
def gt_T (n : Nat) (c : Nat → Nat → Int) (p : Nat → Nat) (w : Nat → Int) (x : Nat) : Prop := ∀ y, 1 ≤ y → y < x → p y < y ∧ w y = lm_L n c y (p y) ∧ ∀ u, u < y → lm_L n c y u = min (w y) (lm_L n c (p y) u)
def gt_P (n : Nat) (p : Nat → Nat) (x : Nat) : Prop := ∀ v, x ≤ v → v < n → p v < x
/-- between any two points below x there is a smallest cut that splits no cluster -/
def gt_A (n : Nat) (c : Nat → Nat → Int) (p : Nat → Nat) (x : Nat) : Prop := ∀ j u, j < x → u < x → j ≠ u → ∃ A : Nat → Bool, A j = true ∧ A u = false ∧ dw_D n c A = lm_L n c j u ∧ ∀ v, x ≤ v → v < n → A v = A (p v)
/-- one cluster after the other is made whole -/
theorem gt_un {n : Nat} {c : Nat → Nat → Int} {p : Nat → Nat} {x : Nat} {X : Nat → Bool} (hC : dw_C n c) (hx : x < n) (P : gt_P n p x) (A : gt_A n c p x) (X1 : X x = true) (X2 : X (p x) = false) (X3 : dw_D n c X = lm_L n c x (p x)) : ∀ k, k ≤ x → ∃ Z : Nat → Bool, Z x = true ∧ Z (p x) = false ∧ dw_D n c Z = lm_L n c x (p x) ∧ (∀ v, x < v → v < n → p v = p x → Z v = X v) ∧ ∀ v, x < v → v < n → p v ≠ p x → p v < k → Z v = Z (p v) := by
  intro k
  induction k with
  | zero => exact fun _ => ⟨X, X1, X2, X3, fun _ _ _ _ => rfl, fun v _ _ _ h => absurd h (by omega)⟩
  | succ k ih =>
    intro hk
    obtain ⟨Z, z1, z2, z3, z4, z5⟩ := ih (by omega)
    by_cases ek : k = p x
    · exact ⟨Z, z1, z2, z3, z4, fun v h1 h2 h3 h4 => z5 v h1 h2 h3 (by omega)⟩
    · have ht : p x < x := P x (by omega) hx
      obtain ⟨B, b1, b2, b3, b4⟩ := A (p x) k ht (by omega) (fun e => ek e.symm)
      have bx : B x = true := (b4 x (by omega) hx).trans b1
      cases hz : Z k
      · have s := dw_sub hC Z B
        have s1 : lm_L n c (p x) k ≤ dw_D n c (fun u => Z u || B u) := lm_le hC (by simp [b1]) (by simp [hz, b2])
        have s2 : lm_L n c x (p x) ≤ dw_D n c (fun u => Z u && B u) := lm_le hC (by simp [z1, bx]) (by simp [z2])
        refine ⟨fun u => Z u && B u, by simp [z1, bx], by simp [z2], by omega, ?_, ?_⟩
        · intro v h1 h2 h3
          have : B v = true := by rw [b4 v (by omega) h2, h3, b1]
          simp [this, z4 v h1 h2 h3]
        · intro v h1 h2 h3 h4
          have hb := b4 v (by omega) h2
          by_cases e : p v = k
          · rw [e] at hb
            simp [e, hb, b2]
          · simp [hb, z5 v h1 h2 h3 (by omega)]
      · have s := dw_sub hC (fun u => !Z u) B
        rw [dw_not hC Z] at s
        have s1 : lm_L n c (p x) k ≤ dw_D n c (fun u => !Z u || B u) := lm_le hC (by simp [b1]) (by simp [hz, b2])
        have s3 : dw_D n c (fun u => !Z u && B u) = dw_D n c (fun u => Z u || !B u) := by
          rw [← dw_not hC (fun u => Z u || !B u)]
          apply dw_cg
          intro u _
          cases Z u <;> cases B u <;> rfl
        have s2 : lm_L n c x (p x) ≤ dw_D n c (fun u => Z u || !B u) := lm_le hC (by simp [z1]) (by simp [z2, b1])
        refine ⟨fun u => Z u || !B u, by simp [z1], by simp [z2, b1], by omega, ?_, ?_⟩
        · intro v h1 h2 h3
          have : B v = true := by rw [b4 v (by omega) h2, h3, b1]
          simp [this, z4 v h1 h2 h3]
        · intro v h1 h2 h3 h4
          have hb := b4 v (by omega) h2
          by_cases e : p v = k
          · rw [e] at hb
            simp [e, hb, b2]
          · simp [hb, z5 v h1 h2 h3 (by omega)]
/-- the new point's links to the elder ones -/
theorem gt_new {n : Nat} {c : Nat → Nat → Int} {p : Nat → Nat} {x : Nat} (hC : dw_C n c) (hx : x < n) (P : gt_P n p x) (A : gt_A n c p x) (u : Nat) (hu : u < x) : lm_L n c x u = min (lm_L n c x (p x)) (lm_L n c (p x) u) := by
  have ht : p x < x := P x (by omega) hx
  by_cases e : u = p x
  · rw [e, lm_self]
    have := lm_bd hC (u := x) (v := p x) (by omega)
    omega
  · obtain ⟨B, b1, b2, b3, b4⟩ := A (p x) u ht hu (fun z => e z.symm)
    have bx : B x = true := (b4 x (by omega) hx).trans b1
    have h1 : lm_L n c x u ≤ lm_L n c (p x) u := by
      rw [← b3]
      exact lm_le hC bx b2
    have h2 := lm_ul hC (u := x) (v := p x) u (by omega)
    have h3 := lm_ul hC (u := x) (v := u) (p x) (by omega)
    rw [lm_sy hC u (p x)] at h2
    omega
theorem gt_step {n : Nat} {c : Nat → Nat → Int} {p p' : Nat → Nat} {w w' : Nat → Int} {x : Nat} {X : Nat → Bool} (hC : dw_C n c) (hx : x < n) (T : gt_T n c p w x) (P : gt_P n p x) (A : gt_A n c p x) (X1 : X x = true) (X2 : X (p x) = false) (X3 : dw_D n c X = lm_L n c x (p x))
    (hp : ∀ v, v < n → p' v = if x < v ∧ X v = true ∧ p v = p x then x else p v) (hw : ∀ v, v < n → w' v = if v = x then lm_L n c x (p x) else w v) : gt_T n c p' w' (x + 1) ∧ gt_P n p' (x + 1) ∧ gt_A n c p' (x + 1) := by
  have ht : p x < x := P x (by omega) hx
  have hpo : ∀ v, v < n → ¬ x < v → p' v = p v := fun v h1 h2 => by rw [hp v h1, if_neg (fun z => h2 z.1)]
  obtain ⟨Z, z1, z2, z3, z4, z5⟩ := gt_un hC hx P A X1 X2 X3 x (Nat.le_refl _)
  -- a set that splits no elder cluster splits no new one
  have old : ∀ B : Nat → Bool, (∀ v, x ≤ v → v < n → B v = B (p v)) → ∀ v, x + 1 ≤ v → v < n → B v = B (p' v) := by
    intro B hB v h1 h2
    rw [hp v h2]
    by_cases e : x < v ∧ X v = true ∧ p v = p x
    · rw [if_pos e, hB v (by omega) h2, e.2.2, ← hB x (by omega) hx]
    · rw [if_neg e]
      exact hB v (by omega) h2
  have newc : ∀ v, x + 1 ≤ v → v < n → Z v = Z (p' v) := by
    intro v h1 h2
    rw [hp v h2]
    by_cases e : p v = p x
    · rw [z4 v (by omega) h2 e]
      cases hX : X v
      · rw [if_neg (by simp), e, z2]
      · rw [if_pos ⟨by omega, rfl, e⟩, z1]
    · rw [if_neg (fun z => e z.2.2)]
      exact z5 v (by omega) h2 e (P v (by omega) h2)
  have one : ∀ u, u < x → ∃ B : Nat → Bool, B x = true ∧ B u = false ∧ dw_D n c B = lm_L n c x u ∧ ∀ v, x + 1 ≤ v → v < n → B v = B (p' v) := by
    intro u hu
    have hN := gt_new hC hx P A u hu
    by_cases e : u = p x
    · exact ⟨Z, z1, by rw [e]; exact z2, by rw [e]; exact z3, newc⟩
    · rcases Int.lt_or_le (lm_L n c x (p x)) (lm_L n c (p x) u) with z | z
      · refine ⟨Z, z1, ?_, by omega, newc⟩
        cases hu' : Z u
        · rfl
        · have := lm_le hC (u := u) (v := p x) hu' z2
          rw [lm_sy hC] at this
          omega
      · obtain ⟨B, b1, b2, b3, b4⟩ := A (p x) u ht hu (fun z => e z.symm)
        exact ⟨B, (b4 x (by omega) hx).trans b1, b2, by omega, old B b4⟩
  refine ⟨?_, ?_, ?_⟩
  · intro y h1 h2
    rw [hpo y (by omega) (by omega), hw y (by omega)]
    by_cases e : y = x
    · subst e
      rw [if_pos rfl]
      exact ⟨ht, rfl, fun u hu => gt_new hC hx P A u hu⟩
    · rw [if_neg e]
      exact T y h1 (by omega)
  · intro v h1 h2
    rw [hp v h2]
    have := P v (by omega) h2
    split <;> omega
  · intro j u hj hu hju
    by_cases e1 : j = x
    · subst e1
      exact one u (by omega)
    · by_cases e2 : u = x
      · subst e2
        obtain ⟨B, b1, b2, b3, b4⟩ := one j (by omega)
        refine ⟨fun i => !B i, by simp [b2], by simp [b1], ?_, fun v h1 h2 => by simp [b4 v h1 h2]⟩
        rw [dw_not hC B, b3, lm_sy hC]
      · obtain ⟨B, b1, b2, b3, b4⟩ := A j u (by omega) (by omega) hju
        exact ⟨B, b1, b2, b3, old B b4⟩
theorem gt_0 {n : Nat} {c : Nat → Nat → Int} {p : Nat → Nat} {w : Nat → Int} (hp : ∀ v, v < n → p v = 0) : gt_T n c p w 1 ∧ gt_P n p 1 ∧ gt_A n c p 1 :=
  ⟨fun y h1 h2 => absurd h1 (by omega), fun v _ h => by rw [hp v h]; decide, fun j u hj hu e => absurd e (by omega)⟩
/-! ===== depths ===== -/
def gt_d (p : Nat → Nat) : Nat → Nat → Nat
  | 0, _ => 0
  | k + 1, x => if x = 0 then 0 else gt_d p k (p x) + 1
theorem gt_ds {n : Nat} {c : Nat → Nat → Int} {p : Nat → Nat} {w : Nat → Int} (T : gt_T n c p w n) : ∀ k j x, x < n → x ≤ k → x ≤ j → gt_d p k x = gt_d p j x := by
  intro k
  induction k with
  | zero =>
    intro j x h h1 h2
    have : x = 0 := by omega
    subst this
    cases j <;> simp [gt_d]
  | succ k ih =>
    intro j x h h1 h2
    by_cases e : x = 0
    · subst e
      cases j <;> simp [gt_d]
    · obtain ⟨j, rfl⟩ : ∃ i, j = i + 1 := ⟨j - 1, by omega⟩
      have := (T x (by omega) h).1
      simp only [gt_d, if_neg e]
      rw [ih j (p x) (by omega) (by omega) (by omega)]
def gt_dp (p : Nat → Nat) (x : Nat) : Nat := gt_d p x x
theorem gt_dp0 (p : Nat → Nat) : gt_dp p 0 = 0 := rfl
theorem gt_dps {n : Nat} {c : Nat → Nat → Int} {p : Nat → Nat} {w : Nat → Int} (T : gt_T n c p w n) {x : Nat} (h0 : x ≠ 0) (h : x < n) : gt_dp p x = gt_dp p (p x) + 1 := by
  unfold gt_dp
  obtain ⟨y, rfl⟩ : ∃ i, x = i + 1 := ⟨x - 1, by omega⟩
  have := (T (y + 1) (by omega) h).1
  simp only [gt_d, if_neg h0]
  rw [gt_ds T y (p (y + 1)) (p (y + 1)) (by omega) (by omega) (by omega)]
theorem gt_dple {n : Nat} {c : Nat → Nat → Int} {p : Nat → Nat} {w : Nat → Int} (T : gt_T n c p w n) : ∀ x, x < n → gt_dp p x ≤ x := by
  intro x
  induction x using Nat.strongRecOn with
  | ind x ih =>
    intro h
    by_cases e : x = 0
    · subst e; exact Nat.le_refl _
    · have h1 := (T x (by omega) h).1
      rw [gt_dps T e h]
      have := ih (p x) h1 (by omega)
      omega
/-- the deeper one goes up -/
theorem gt_up {n : Nat} {c : Nat → Nat → Int} {p : Nat → Nat} {w : Nat → Int} (hC : dw_C n c) (T : gt_T n c p w n) {x : Nat} (hx : x < n) (h0 : x ≠ 0) : ∀ y, y < n → y ≠ x → gt_dp p y ≤ gt_dp p x → lm_L n c x y = min (w x) (lm_L n c (p x) y) := by
  intro y
  induction y using Nat.strongRecOn with
  | ind y ih =>
    intro hy hne hd
    obtain ⟨t1, t2, t3⟩ := T x (by omega) hx
    rcases Nat.lt_or_ge y x with z | z
    · exact t3 y z
    · obtain ⟨s1, s2, s3⟩ := T y (by omega) hy
      have hd' := gt_dps T (x := y) (by omega) hy
      have e1 : p y ≠ x := by
        intro e
        rw [e] at hd'
        omega
      have i := ih (p y) s1 (by omega) e1 (by omega)
      have a := s3 x (by omega)
      have b := s3 (p x) (by omega)
      rw [lm_sy hC x y, lm_sy hC (p x) y, a, b, lm_sy hC (p y) x, i, lm_sy hC (p x) (p y)]
      omega
theorem gt_ne0 {n : Nat} {c : Nat → Nat → Int} {p : Nat → Nat} {w : Nat → Int} (T : gt_T n c p w n) {x y : Nat} (hy : y < n) (hne : y ≠ x) (hd : gt_dp p y ≤ gt_dp p x) : x ≠ 0 := by
  intro e
  subst e
  rw [gt_dp0, gt_dps T hne hy] at hd
  omega
/-- a cut that parts anything parts an edge of the tree -/
theorem gt_edge {n : Nat} {c : Nat → Nat → Int} {p : Nat → Nat} {w : Nat → Int} (hC : dw_C n c) (T : gt_T n c p w n) {S : Nat → Bool} {a b : Nat} (ha : a < n) (hb : b < n) (h : S a ≠ S b) : ∃ y, 1 ≤ y ∧ y < n ∧ w y ≤ dw_D n c S := by
  apply Classical.byContradiction
  intro H
  have all : ∀ y, y < n → S y = S 0 := by
    intro y
    induction y using Nat.strongRecOn with
    | ind y ih =>
      intro hy
      by_cases e : y = 0
      · rw [e]
      · obtain ⟨t1, t2, t3⟩ := T y (by omega) hy
        rw [← ih (p y) t1 (by omega)]
        apply Classical.byContradiction
        intro z
        exact H ⟨y, by omega, hy, by rw [t2]; exact lm_le' hC z⟩
  exact h ((all a ha).trans (all b hb).symm)
end
section
/-! flows: what goes over a cut; when no way is left; one push -/
def mf_F (n : Nat) (c : Nat → Nat → Int) (s t : Nat) (f : Nat → Nat → Int) (T : Int) : Prop := (∀ u v, u < n → v < n → f u v = - f v u ∧ f u v ≤ c u v) ∧ (∀ u, u < n → u ≠ s → u ≠ t → zs_S (f u) n = 0) ∧ zs_S (f s) n = T
theorem mf_in {n : Nat} {f : Nat → Nat → Int} (h : ∀ u v, u < n → v < n → f u v = - f v u) (S : Nat → Bool) : zs_S (fun u => zs_S (fun v => if S u && S v then f u v else 0) n) n = 0 := by
  have e : zs_S (fun u => zs_S (fun v => if S u && S v then f u v else 0) n) n = - zs_S (fun u => zs_S (fun v => if S u && S v then f u v else 0) n) n := by
    rw [← zs_neg]
    refine Eq.trans (zs_comm _ n n) ?_
    apply zs_cg
    intro u hu
    refine Eq.trans ?_ (zs_neg _ n)
    apply zs_cg
    intro v hv
    have := h u v hu hv
    rcases Bool.eq_false_or_eq_true (S u) with a | a <;> rcases Bool.eq_false_or_eq_true (S v) with b | b <;> simp [a, b] <;> omega
  omega
theorem mf_net {n : Nat} {f : Nat → Nat → Int} (h : ∀ u v, u < n → v < n → f u v = - f v u) (S : Nat → Bool) : zs_S (fun u => if S u then zs_S (f u) n else 0) n = dw_D n f S := by
  have e : zs_S (fun u => if S u then zs_S (f u) n else 0) n = zs_S (fun u => zs_S (fun v => if S u && S v then f u v else 0) n) n + dw_D n f S := by
    unfold dw_D
    rw [← zs_add]
    apply zs_cg
    intro u hu
    try dsimp only
    rw [← zs_add]
    rcases Bool.eq_false_or_eq_true (S u) with a | a
    · rw [if_pos a]
      apply zs_cg
      intro v hv
      rcases Bool.eq_false_or_eq_true (S v) with b | b <;> simp [a, b]
    · simp [a, zs_z]
  rw [e, mf_in h]
  omega
theorem mf_cut {n : Nat} {c f : Nat → Nat → Int} {s t : Nat} {T : Int} (F : mf_F n c s t f T) (hs : s < n) {S : Nat → Bool} (a : S s = true) (b : S t = false) : dw_D n f S = T := by
  rw [← mf_net (fun u v hu hv => (F.1 u v hu hv).1) S]
  have e : zs_S (fun u => if S u then zs_S (f u) n else 0) n = zs_S (fun u => if u = s then T else 0) n := by
    apply zs_cg
    intro u hu
    by_cases e1 : u = s
    · subst e1
      simp [a, F.2.2]
    · by_cases e2 : u = t
      · subst e2
        simp [b, e1]
      · simp [F.2.1 u hu e1 e2, e1]
  rw [e, zs_one T hs]
theorem mf_le {n : Nat} {c f : Nat → Nat → Int} {s t : Nat} {T : Int} (F : mf_F n c s t f T) (S : Nat → Bool) : dw_D n f S ≤ dw_D n c S := by
  unfold dw_D
  apply zs_le
  intro u hu
  apply zs_le
  intro v hv
  have := (F.1 u v hu hv).2
  try dsimp only
  split <;> omega
theorem mf_bd {n : Nat} {c f : Nat → Nat → Int} {s t : Nat} {T : Int} (hC : dw_C n c) (F : mf_F n c s t f T) (hs : s < n) (hst : s ≠ t) : T ≤ 400 := by
  have h := mf_cut F hs (S := fun i => decide (i = s)) (by simp) (by simp; omega)
  have h1 := mf_le F (fun i => decide (i = s))
  have h2 := dw_pt hC s
  omega
/-- no way is left: the points come to are a smallest cut, and the least one -/
theorem mf_end {n : Nat} {c f : Nat → Nat → Int} {s t : Nat} {T : Int} (hC : dw_C n c) (F : mf_F n c s t f T) (hs : s < n) {R : Nat → Bool} (a : R s = true) (b : R t = false) (h : ∀ u v, u < n → v < n → R u = true → R v = false → c u v ≤ f u v) : dw_D n c R = T ∧ lm_L n c s t = T := by
  have e : dw_D n c R = dw_D n f R := by
    unfold dw_D
    apply zs_cg
    intro u hu
    apply zs_cg
    intro v hv
    try dsimp only
    have h1 := (F.1 u v hu hv).2
    rcases Bool.eq_false_or_eq_true (R u) with ru | ru
    · rcases Bool.eq_false_or_eq_true (R v) with rv | rv
      · simp [ru, rv]
      · have := h u v hu hv ru rv
        simp [ru, rv]
        omega
    · simp [ru]
  rw [mf_cut F hs a b] at e
  refine ⟨e, lm_eq hC ⟨⟨R, a, b, e⟩, fun S h1 h2 => ?_⟩⟩
  have := mf_cut F hs h1 h2
  have := mf_le F S
  omega
theorem mf_sat {n : Nat} {c f : Nat → Nat → Int} {s t : Nat} {T : Int} (F : mf_F n c s t f T) (hs : s < n) {S : Nat → Bool} (a : S s = true) (b : S t = false) (e : dw_D n c S = T) : ∀ u v, u < n → v < n → S u = true → S v = false → f u v = c u v := by
  have h1 := mf_cut F hs a b
  unfold dw_D at e h1
  have hin : ∀ u v, u < n → v < n → (if S u && !S v then f u v else 0) ≤ (if S u && !S v then c u v else 0) := by
    intro u v hu hv
    have := (F.1 u v hu hv).2
    split <;> omega
  have r := zs_eq (f := fun u => zs_S (fun v => if S u && !S v then f u v else 0) n) (g := fun u => zs_S (fun v => if S u && !S v then c u v else 0) n) (n := n) (fun u hu => zs_le (fun v hv => hin u v hu hv)) (by omega)
  intro u v hu hv su sv
  have r1 := r u hu
  have r2 := zs_eq (f := fun v => if S u && !S v then f u v else 0) (g := fun v => if S u && !S v then c u v else 0) (n := n) (fun v hv => hin u v hu hv) (Int.le_of_eq r1.symm) v hv
  simpa [su, sv] using r2
/-- m more from a to b -/
def mf_p (f : Nat → Nat → Int) (a b : Nat) (m : Int) : Nat → Nat → Int := fun u v => f u v + (if u = a ∧ v = b then m else 0) - (if u = b ∧ v = a then m else 0)
theorem mf_pn {n : Nat} {f : Nat → Nat → Int} {a b : Nat} {m : Int} (ha : a < n) (hb : b < n) (h : a ≠ b) (u : Nat) : zs_S (mf_p f a b m u) n = zs_S (f u) n + (if u = a then m else 0) - (if u = b then m else 0) := by
  by_cases e1 : u = a
  · subst e1
    rw [zs_more (f := f u) (b := b) (m := m) hb (fun i hi => by
      unfold mf_p
      simp [h])]
    simp [h]
  · by_cases e2 : u = b
    · subst e2
      rw [zs_more (f := f u) (b := a) (m := -m) ha (fun i hi => by
        unfold mf_p
        by_cases z : i = a <;> simp [e1, z] <;> omega)]
      simp [e1]
      omega
    · rw [zs_cg (g := f u) (fun i hi => by unfold mf_p; simp [e1, e2])]
      simp [e1, e2]
/-- the points on the way back from t -/
def mf_y (par : Nat → Nat) (t : Nat) : Nat → Nat
  | 0 => t
  | i + 1 => par (mf_y par t i)
theorem mf_ys (par : Nat → Nat) (t i : Nat) : mf_y par (par t) i = mf_y par t (i + 1) := by
  induction i with
  | zero => rfl
  | succ i ih => show par (mf_y par (par t) i) = par (mf_y par t (i + 1)); rw [ih]
/-- what a search leaves behind -/
def bf_E (n s : Nat) (g : Nat → Nat → Prop) (re : Int32) (cf : Nat → Int32) (par rk : Nat → Nat) : Prop := bt re s = true ∧ (∀ v, bt re v = true → v < n) ∧ (∀ v, bt re v = true → v ≠ s → cf v = nI (par v) ∧ bt re (par v) = true ∧ rk (par v) < rk v ∧ g (par v) v) ∧ ∀ u v, bt re u = true → v < n → bt re v = false → ¬ g u v
/-- the way: k steps -/
def mf_W (n s : Nat) (g : Nat → Nat → Prop) (cf : Nat → Int32) (rk : Nat → Nat) (t k : Nat) (y : Nat → Nat) : Prop := y 0 = t ∧ y k = s ∧ (∀ i, i ≤ k → y i < n) ∧ ∀ i, i < k → y i ≠ s ∧ cf (y i) = nI (y (i + 1)) ∧ rk (y (i + 1)) < rk (y i) ∧ g (y (i + 1)) (y i)
theorem mf_way {n s : Nat} {g : Nat → Nat → Prop} {re : Int32} {cf : Nat → Int32} {par rk : Nat → Nat} (E : bf_E n s g re cf par rk) : ∀ d t, rk t ≤ d → bt re t = true → ∃ k, mf_W n s g cf rk t k (mf_y par t) ∧ k ≤ rk t := by
  intro d
  induction d with
  | zero =>
    intro t h ht
    by_cases e : t = s
    · exact ⟨0, ⟨rfl, e, fun i hi => by have : i = 0 := by omega
                                        subst this
                                        exact E.2.1 t ht, fun i hi => absurd hi (by omega)⟩, by omega⟩
    · have := (E.2.2.1 t ht e).2.2.1
      omega
  | succ d ih =>
    intro t h ht
    by_cases e : t = s
    · exact ⟨0, ⟨rfl, e, fun i hi => by have : i = 0 := by omega
                                        subst this
                                        exact E.2.1 t ht, fun i hi => absurd hi (by omega)⟩, by omega⟩
    · obtain ⟨h1, h2, h3, h4⟩ := E.2.2.1 t ht e
      obtain ⟨k, ⟨_, w1, w2, w3⟩, hk⟩ := ih (par t) (by omega) h2
      refine ⟨k + 1, ⟨rfl, by rw [← mf_ys]; exact w1, fun i hi => ?_, fun i hi => ?_⟩, by omega⟩
      · cases i with
        | zero => exact E.2.1 t ht
        | succ i => rw [← mf_ys]; exact w2 i (by omega)
      · cases i with
        | zero => exact ⟨e, h1, h3, h4⟩
        | succ i =>
          have := w3 i (by omega)
          rw [mf_ys, mf_ys] at this
          exact this
theorem mf_rk {n s : Nat} {g : Nat → Nat → Prop} {cf : Nat → Int32} {rk : Nat → Nat} {t k : Nat} {y : Nat → Nat} (W : mf_W n s g cf rk t k y) : ∀ j i, i ≤ k → j < i → rk (y i) < rk (y j) := by
  intro j i
  induction i with
  | zero => intro _ h; omega
  | succ i ih =>
    intro h1 h2
    have a := (W.2.2.2 i (by omega)).2.2.1
    by_cases e : j = i
    · rw [e]; exact a
    · have := ih (by omega) (by omega)
      omega
/-- what holds when the way has been filled from t down to its i-th point -/
def mf_I (n : Nat) (c f0 : Nat → Nat → Int) (rk : Nat → Nat) (t : Nat) (m : Int) (z : Nat) (f : Nat → Nat → Int) : Prop := (∀ u v, u < n → v < n → f u v = - f v u ∧ f u v ≤ c u v) ∧ (∀ u, u < n → zs_S (f u) n = zs_S (f0 u) n + (if u = z then m else 0) - (if u = t then m else 0)) ∧ ∀ u v, u < n → v < n → rk u ≤ rk z → rk v ≤ rk z → f u v = f0 u v
theorem mf_I0 {n : Nat} {c f0 : Nat → Nat → Int} {s t : Nat} {T m : Int} {rk : Nat → Nat} (F : mf_F n c s t f0 T) : mf_I n c f0 rk t m t f0 :=
  ⟨F.1, fun u _ => by omega, fun _ _ _ _ _ _ => rfl⟩
theorem mf_Is {n : Nat} {c f0 f : Nat → Nat → Int} {rk : Nat → Nat} {t : Nat} {m : Int} {a b : Nat} (hm : 0 ≤ m) (ha : a < n) (hb : b < n) (hc : f0 a b + m ≤ c a b) (hr : rk a < rk b) (I : mf_I n c f0 rk t m b f) : mf_I n c f0 rk t m a (mf_p f a b m) := by
  have hab : a ≠ b := by
    intro e
    rw [e] at hr
    omega
  obtain ⟨i1, i2, i3⟩ := I
  refine ⟨fun u v hu hv => ?_, fun u hu => ?_, fun u v hu hv h1 h2 => ?_⟩
  · have h0 := i1 u v hu hv
    have h1 := i1 v u hv hu
    have h2 := i3 a b ha hb (by omega) (by omega)
    unfold mf_p
    by_cases e1 : u = a ∧ v = b
    · obtain ⟨rfl, rfl⟩ := e1
      have : ¬ (u = v ∧ v = u) := fun z => hab z.1
      simp [this, hab]
      omega
    · by_cases e2 : u = b ∧ v = a
      · obtain ⟨rfl, rfl⟩ := e2
        simp [hab, fun z : u = v => hab z.symm]
        omega
      · have e3 : ¬ (v = a ∧ u = b) := fun z => e2 ⟨z.2, z.1⟩
        have e4 : ¬ (v = b ∧ u = a) := fun z => e1 ⟨z.2, z.1⟩
        rw [if_neg e1, if_neg e2, if_neg e3, if_neg e4]
        omega
  · rw [mf_pn ha hb hab, i2 u hu]
    omega
  · unfold mf_p
    have e1 : ¬ (u = a ∧ v = b) := by
      rintro ⟨rfl, rfl⟩
      omega
    have e2 : ¬ (u = b ∧ v = a) := by
      rintro ⟨rfl, rfl⟩
      omega
    rw [if_neg e1, if_neg e2, i3 u v hu hv (by omega) (by omega)]
    omega
theorem mf_Ie {n : Nat} {c f0 f : Nat → Nat → Int} {rk : Nat → Nat} {s t : Nat} {T m : Int} (hs : s < n) (hst : s ≠ t) (F : mf_F n c s t f0 T) (I : mf_I n c f0 rk t m s f) : mf_F n c s t f (T + m) := by
  refine ⟨I.1, fun u hu h1 h2 => ?_, ?_⟩
  · rw [I.2.1 u hu, if_neg h1, if_neg h2, F.2.1 u hu h1 h2]
    omega
  · rw [I.2.1 s hs, if_pos rfl, if_neg hst, F.2.2]
    omega
theorem mf_F0 {n : Nat} {c f : Nat → Nat → Int} {s t : Nat} (hC : dw_C n c) (hs : s < n) (h : ∀ u v, u < n → v < n → f u v = 0) : mf_F n c s t f 0 := by
  refine ⟨fun u v hu hv => ?_, fun u hu _ _ => zs_z' (fun v hv => h u v hu hv), zs_z' (fun v hv => h s v hs hv)⟩
  have := (hC.2 u v hu hv).1
  rw [h u v hu hv, h v u hv hu]
  omega
/-- the points that were come to lie in every smallest cut -/
theorem mf_sub {n : Nat} {c f : Nat → Nat → Int} {s t : Nat} {T : Int} {re : Int32} {cf : Nat → Int32} {par rk : Nat → Nat} (F : mf_F n c s t f T) (hs : s < n) (E : bf_E n s (fun u v => f u v < c u v) re cf par rk) {S : Nat → Bool} (a : S s = true) (b : S t = false) (e : dw_D n c S = T) : ∀ d v, rk v ≤ d → bt re v = true → S v = true := by
  intro d
  induction d with
  | zero =>
    intro v h hv
    by_cases z : v = s
    · rw [z]; exact a
    · have := (E.2.2.1 v hv z).2.2.1
      omega
  | succ d ih =>
    intro v h hv
    by_cases z : v = s
    · rw [z]; exact a
    · obtain ⟨h1, h2, h3, h4⟩ := E.2.2.1 v hv z
      have hp := ih (par v) (by omega) h2
      cases sv : S v
      · have := mf_sat F hs a b e (par v) v (E.2.1 _ h2) (E.2.1 _ hv) hp sv
        have h4' : f (par v) v < c (par v) v := h4
        omega
      · rfl
end
section
/-! numbers, bits, counts, codes of sets -/
def iz_I (z : Int) : Int32 := Int32.ofInt z
theorem iz_t (x : Int32) : iz_I x.toInt = x := Int32.ofInt_toInt x
theorem iz_add (a b : Int) : iz_I a + iz_I b = iz_I (a + b) := (Int32.ofInt_add a b).symm
theorem iz_sub (a b : Int) : iz_I a - iz_I b = iz_I (a - b) := (Int32.ofInt_sub a b).symm
theorem iz_n (n : Nat) : iz_I (n : Int) = nI n := Int32.ofInt_eq_ofNat
theorem iz_0 : iz_I 0 = 0 := rfl
theorem iz_1 (a : Int) : iz_I a + 1 = iz_I (a + 1) := iz_add a 1
theorem iz_i {z : Int} (h : -1000000 ≤ z ∧ z ≤ 1000000) : (iz_I z).toInt = z := Int32.toInt_ofInt_of_le (Int.le_trans (by decide) h.1) (Int.lt_of_le_of_lt h.2 (by decide))
theorem iz_le {a b : Int} (ha : -1000000 ≤ a ∧ a ≤ 1000000) (hb : -1000000 ≤ b ∧ b ≤ 1000000) : iz_I a ≤ iz_I b ↔ a ≤ b := by
  rw [Int32.le_iff_toInt_le, iz_i ha, iz_i hb]
theorem iz_lt {a b : Int} (ha : -1000000 ≤ a ∧ a ≤ 1000000) (hb : -1000000 ≤ b ∧ b ≤ 1000000) : iz_I a < iz_I b ↔ a < b := by
  rw [Int32.lt_iff_toInt_lt, iz_i ha, iz_i hb]
theorem iz_eq {a b : Int} (ha : -1000000 ≤ a ∧ a ≤ 1000000) (hb : -1000000 ≤ b ∧ b ≤ 1000000) : iz_I a = iz_I b ↔ a = b := by
  rw [← Int32.toInt_inj, iz_i ha, iz_i hb]
/-- places in the tables of 64 -/
theorem ix_e (u v : Nat) : (8 : Int32) * nI u + nI v = nI (8 * u + v) := by
  show nI 8 * nI u + nI v = _
  rw [pk_mul, nI_add]
theorem ix_c {u v : Nat} (hu : u < 8) (hv : v < 8) : ((8 : Int32) * nI u + nI v).toNatClampNeg = 8 * u + v := by
  rw [ix_e, nI_clamp (by omega)]
theorem ix_v {u v : Nat} (hu : u < 8) (hv : v < 8) : vp_in ((8 : Int32) * nI u + nI v) 64 := by
  rw [ix_e]
  exact vp_in_nI (by omega) (by decide)
/-- the table by two places -/
def tb_f (a : Nat → Int32) : Nat → Nat → Int := fun u v => (a (8 * u + v)).toInt
theorem tb_e (a : Nat → Int32) (u v : Nat) : a (8 * u + v) = iz_I (tb_f a u v) := (iz_t _).symm
/-! bits -/
theorem bz_one : ∀ i, i < 32 → bt 1 i = decide (i = 0) := by decide +kernel
theorem bz_e (x : Int32) {v : Nat} (hv : v < 32) : (x >>> (nI v &&& 31)) &&& 1 = if bt x v then 1 else 0 := by
  apply b_ext
  intro i hi
  rw [b_and, b_sshr v hv x hi, bz_one i hi]
  by_cases e : i = 0
  · subst e
    rw [Nat.add_zero, if_pos hv]
    cases bt x v
    · rw [if_neg Bool.false_ne_true, b_0]
      rfl
    · rw [if_pos rfl, bz_one 0 (by decide)]
      rfl
  · rw [decide_eq_false e, Bool.and_false]
    cases bt x v
    · rw [if_neg Bool.false_ne_true, b_0]
    · rw [if_pos rfl, bz_one i hi, decide_eq_false e]
theorem bz_0 (x : Int32) {v : Nat} (hv : v < 32) : ((x >>> (nI v &&& 31)) &&& 1) = 0 ↔ bt x v = false := by
  rw [bz_e x hv]
  cases bt x v
  · exact ⟨fun _ => rfl, fun _ => rfl⟩
  · exact ⟨fun z => absurd z (by decide), fun z => absurd z (by decide)⟩
theorem bz_1 (x : Int32) {v : Nat} (hv : v < 32) : ((x >>> (nI v &&& 31)) &&& 1) = 1 ↔ bt x v = true := by
  rw [bz_e x hv]
  cases bt x v
  · exact ⟨fun z => absurd z (by decide), fun z => absurd z (by decide)⟩
  · exact ⟨fun _ => rfl, fun _ => rfl⟩
theorem bz_s {v : Nat} (hv : v < 32) (i : Nat) : bt ((1 : Int32) <<< (nI v &&& 31)) i = decide (i = v) := by
  rcases Nat.lt_or_ge i 32 with hi | hi
  · rw [b_shl v hv 1 hi, bz_one (i - v) (by omega)]
    by_cases e : i = v
    · subst e; simp
    · rw [decide_eq_false e]
      by_cases z : v ≤ i
      · rw [decide_eq_false (p := i - v = 0) (by omega), Bool.and_false]
      · rw [decide_eq_false z, Bool.false_and]
  · rw [b_big hi, decide_eq_false (by omega)]
theorem bz_set (x : Int32) {v : Nat} (hv : v < 32) (i : Nat) : bt (x ||| ((1 : Int32) <<< (nI v &&& 31))) i = (bt x i || decide (i = v)) := by
  rw [b_or, bz_s hv]
theorem bz_all : ∀ n, n < 9 → ((1 : Int32) <<< (nI n &&& 31)) - 1 = nI (2 ^ n - 1) := by decide +kernel
theorem bz_nI (k : Nat) {i : Nat} (hi : i < 32) : bt (nI k) i = k.testBit i := by
  unfold bt
  show (BitVec.ofNat 32 k).getLsbD i = _
  rw [BitVec.getLsbD_ofNat, decide_eq_true hi, Bool.true_and]
theorem bz_low (x : Int32) {u : Nat} (hu : u < 9) : (x &&& (((1 : Int32) <<< (nI u &&& 31)) - 1)) = 0 ↔ ∀ v, v < u → bt x v = false := by
  rw [bz_all u hu]
  have hb : ∀ i, i < 32 → bt (x &&& nI (2 ^ u - 1)) i = (bt x i && decide (i < u)) := by
    intro i hi
    rw [b_and, bz_nI _ hi, Nat.testBit_two_pow_sub_one]
  constructor
  · intro h v hv
    have := hb v (by omega)
    rw [h, b_0, decide_eq_true hv, Bool.and_true] at this
    exact this.symm
  · intro h
    apply b_ext
    intro i hi
    rw [hb i hi, b_0]
    rcases Nat.lt_or_ge i u with z | z
    · rw [h i z, Bool.false_and]
    · rw [decide_eq_false (by omega), Bool.and_false]
theorem bz_by : ∀ j, j < 51 → (nI j).toInt8.toInt32 = nI j := by decide +kernel
theorem bz_b {j : Nat} (h : j < 51) : vp_nar .byte (nI j).toInt8.toInt32 = nI j := by rw [pk_vb, bz_by j h]
theorem bz_b0 : vp_nar .byte 0 = 0 := by rw [vp_nar_byte]; decide
/-! counts -/
def cn_N (S : Nat → Bool) : Nat → Nat
  | 0 => 0
  | n + 1 => cn_N S n + if S n then 1 else 0
theorem cn_s (S : Nat → Bool) (n : Nat) : cn_N S (n + 1) = cn_N S n + if S n then 1 else 0 := rfl
theorem cn_le (S : Nat → Bool) (n : Nat) : cn_N S n ≤ n := by
  induction n with
  | zero => exact Nat.le_refl _
  | succ n ih => rw [cn_s]; split <;> omega
theorem cn_mono {S T : Nat → Bool} {n : Nat} (h : ∀ i, i < n → S i = true → T i = true) : cn_N S n ≤ cn_N T n := by
  induction n with
  | zero => exact Nat.le_refl _
  | succ n ih =>
    have a := ih (fun i hi => h i (by omega))
    have b := h n (by omega)
    rw [cn_s, cn_s]
    cases s : S n
    · simp; omega
    · rw [b s]; omega
theorem cn_eq {S T : Nat → Bool} {n : Nat} (h : ∀ i, i < n → S i = true → T i = true) (e : cn_N T n ≤ cn_N S n) : ∀ i, i < n → S i = T i := by
  induction n with
  | zero => exact fun i hi => absurd hi (by omega)
  | succ n ih =>
    have a := cn_mono (n := n) (fun i hi => h i (Nat.lt_succ_of_lt hi))
    have b := h n (by omega)
    rw [cn_s, cn_s] at e
    have hn : S n = T n ∧ cn_N T n ≤ cn_N S n := by
      cases s : S n <;> cases t : T n
      · rw [s, t] at e; exact ⟨rfl, by simpa using e⟩
      · rw [s, t] at e; simp at e; omega
      · rw [b s] at t; cases t
      · rw [s, t] at e; exact ⟨rfl, by simpa using e⟩
    intro i hi
    rcases Nat.lt_or_ge i n with z | z
    · exact ih (fun i hi => h i (by omega)) hn.2 i z
    · have : i = n := by omega
      rw [this]
      exact hn.1
theorem cn_cg {S T : Nat → Bool} {n : Nat} (h : ∀ i, i < n → S i = T i) : cn_N S n = cn_N T n :=
  Nat.le_antisymm (cn_mono (fun i hi e => (h i hi) ▸ e)) (cn_mono (fun i hi e => (h i hi).symm ▸ e))
theorem cn_lt {S : Nat → Bool} {n v : Nat} (hv : v < n) (h : S v = false) : cn_N S n < n := by
  induction n with
  | zero => omega
  | succ n ih =>
    have := cn_le S n
    rw [cn_s]
    by_cases e : v = n
    · rw [← e, h, if_neg Bool.false_ne_true]
      rw [← e] at this
      omega
    · have := ih (by omega)
      split <;> omega
theorem cn_set {S S' : Nat → Bool} {n v : Nat} (hv : v < n) (h : S v = false) (h' : ∀ i, i < n → S' i = (S i || decide (i = v))) : cn_N S' n = cn_N S n + 1 := by
  induction n with
  | zero => omega
  | succ n ih =>
    rw [cn_s, cn_s, h' n (by omega)]
    by_cases e : v = n
    · subst e
      rw [h, cn_cg (T := S) (fun i hi => by rw [h' i (by omega), decide_eq_false (by omega), Bool.or_false])]
      simp
    · rw [ih (by omega) (fun i hi => h' i (by omega)), decide_eq_false (fun z => e z.symm), Bool.or_false]
      omega
theorem cn_pos {S : Nat → Bool} {n v : Nat} (hv : v < n) (h : S v = true) : 1 ≤ cn_N S n := by
  induction n with
  | zero => omega
  | succ n ih =>
    rw [cn_s]
    by_cases e : v = n
    · rw [← e, h, if_pos rfl]; omega
    · have := ih (by omega)
      omega
/-! codes -/
def cd_N (S : Nat → Bool) : Nat → Nat
  | 0 => 0
  | n + 1 => cd_N S n ||| (if S n then 2 ^ n else 0)
theorem cd_b (S : Nat → Bool) (n i : Nat) : (cd_N S n).testBit i = (decide (i < n) && S i) := by
  induction n with
  | zero => simp [cd_N]
  | succ n ih =>
    show (cd_N S n ||| (if S n then 2 ^ n else 0)).testBit i = _
    rw [Nat.testBit_or, ih]
    by_cases e : i = n
    · subst e
      cases S i <;> simp
    · have h1 : decide (i < n + 1) = decide (i < n) := by
        by_cases z : i < n
        · rw [decide_eq_true z, decide_eq_true (by omega)]
        · rw [decide_eq_false z, decide_eq_false (by omega)]
      rw [h1]
      cases S n
      · simp
      · rw [if_pos rfl, Nat.testBit_two_pow_of_ne (fun z => e z.symm), Bool.or_false]
theorem cd_lt (S : Nat → Bool) (n : Nat) : cd_N S n < 2 ^ n := Nat.lt_pow_two_of_testBit _ (fun i hi => by rw [cd_b, decide_eq_false (by omega), Bool.false_and])
theorem cd_pos {S : Nat → Bool} {n v : Nat} (hv : v < n) (h : S v = true) : 1 ≤ cd_N S n := by
  rcases Nat.eq_zero_or_pos (cd_N S n) with z | z
  · have := cd_b S n v
    rw [z, h, decide_eq_true hv, Nat.zero_testBit] at this
    cases this
  · exact z
theorem cd_top {S : Nat → Bool} {n v : Nat} (hv : v < n) (h : S v = false) : cd_N S n < 2 ^ n - 1 := by
  have h1 := cd_lt S n
  have h2 : cd_N S n ≠ 2 ^ n - 1 := by
    intro z
    have := cd_b S n v
    rw [z, h, decide_eq_true hv, Nat.testBit_two_pow_sub_one, decide_eq_true hv] at this
    cases this
  omega
theorem cd_bt (S : Nat → Bool) {n i : Nat} (hn : n ≤ 8) (hi : i < n) : bt (nI (cd_N S n)) i = S i := by
  rw [bz_nI _ (by omega), cd_b, decide_eq_true hi, Bool.true_and]
/-- an Int32 whose bits lie below n is its code -/
theorem cd_of {x : Int32} {n : Nat} (hn : n ≤ 8) (h : ∀ v, bt x v = true → v < n) : nI (cd_N (bt x) n) = x := by
  apply b_ext
  intro i hi
  rw [bz_nI _ hi, cd_b]
  rcases Nat.lt_or_ge i n with z | z
  · rw [decide_eq_true z, Bool.true_and]
  · rw [decide_eq_false (by omega), Bool.false_and]
    cases e : bt x i
    · rfl
    · have := h i e
      omega
end
section
/-! the reference: weightOf, linkOf, smallest, sizeOf, side, groupOf -/
theorem yw_pw {n : Nat} (hn : n ≤ 8) : 2 ^ n ≤ 256 := Nat.pow_le_pow_right (n := 2) (by decide) hn
theorem yw_p0 (n : Nat) : 1 ≤ 2 ^ n := Nat.two_pow_pos n
theorem yw_in1 {post : Int32 → Prop} {f : Int32} {a : Nat → Int32} {x : Int32} {v : Nat} (hv : v < 32) (h : bt x v = true) (k : post 1) : wpY_in post (f, a) x (nI v) := br_t ((bz_1 x hv).mpr h) k
theorem yw_in0 {post : Int32 → Prop} {f : Int32} {a : Nat → Int32} {x : Int32} {v : Nat} (hv : v < 32) (h : bt x v = false) (k : post 0) : wpY_in post (f, a) x (nI v) := br_f (fun z => by rw [(bz_1 x hv).mp z] at h; cases h) k
theorem yw_all {post : Int32 → Prop} {n : Nat} {a : Nat → Int32} (hn : n ≤ 8) (k : post (nI (2 ^ n - 1))) : wpY_all post (nI n, a) := by
  show post _
  rw [bz_all n (by omega)]
  exact k
/-- what the couple u, v adds to the weight of the cut x -/
def yw_t (a : Nat → Int32) (x : Int32) (u v : Nat) : Int := if bt x u && !bt x v then tb_f a u v else 0
theorem yw_D (n : Nat) (a : Nat → Int32) (x : Int32) : dw_D n (tb_f a) (bt x) = zs_S (fun u => zs_S (yw_t a x u) n) n := rfl
theorem yw_t0 {a : Nat → Int32} {x : Int32} {u : Nat} (v : Nat) (h : bt x u = false) : yw_t a x u v = 0 := by unfold yw_t; rw [h]; rfl
theorem yw_t1 {a : Nat → Int32} {x : Int32} (u : Nat) {v : Nat} (h : bt x v = true) : yw_t a x u v = 0 := by unfold yw_t; rw [h, Bool.not_true, Bool.and_false]; rfl
theorem yw_t2 {a : Nat → Int32} {x : Int32} {u v : Nat} (h : bt x u = true) (h' : bt x v = false) : yw_t a x u v = tb_f a u v := by unfold yw_t; rw [h, h']; rfl
theorem yw_w15 {post : Int32 → Prop} {J : Int32 → Int32 → Prop} {x : Int32} {n : Nat} {a : Nat → Int32} {u : Nat} (hn : n ≤ 8) (hu : u < n) (b : Int) (K : J (iz_I (b + zs_S (yw_t a x u) n)) (nI (u + 1))) : ∀ d v, v + d = n → wY_weightOf_15 post J x (nI u) (nI n) a (d + 1) (iz_I (b + zs_S (yw_t a x u) v)) (nI v) := by
  intro d
  induction d with
  | zero =>
    intro v hv
    have : v = n := by omega
    subst this
    exact br_t (Int32.le_refl _) (nm_r (nI_1 u) K)
  | succ d ih =>
    intro v hv
    have hnv : ¬ nI n ≤ nI v := nI_ge (by omega) (by omega)
    have step := ih (v + 1) (by omega)
    rw [zs_s] at step
    refine br_f hnv ?_
    cases hb : bt x u
    · rw [yw_t0 v hb, Int.add_zero] at step
      exact yw_in0 (by omega) hb (br_t rfl (nm_r (nI_1 v) step))
    · refine yw_in1 (by omega) hb (br_f (by decide) ?_)
      cases hc : bt x v
      · rw [yw_t2 hb hc, ← Int.add_assoc, ← iz_add, ← tb_e, ← ix_c (u := u) (v := v) (by omega) (by omega)] at step
        exact yw_in0 (by omega) hc (br_t rfl ⟨ix_v (by omega) (by omega), nm_e (nm_r (nI_1 v) step)⟩)
      · rw [yw_t1 u hc, Int.add_zero] at step
        exact yw_in1 (by omega) hc (br_f (by decide) (nm_r (nI_1 v) step))
theorem yw_w4 {post : Int32 → Prop} {x : Int32} {n : Nat} {a : Nat → Int32} (hn : n ≤ 8) (K : post (iz_I (dw_D n (tb_f a) (bt x)))) : ∀ d u, u + d = n → wY_weightOf_4 post x (nI n) a (d + 1) (iz_I (zs_S (fun u => zs_S (yw_t a x u) n) u)) (nI u) := by
  intro d
  induction d with
  | zero =>
    intro u hu
    have : u = n := by omega
    subst this
    exact br_t (Int32.le_refl _) K
  | succ d ih =>
    intro u hu
    have hnv : ¬ nI n ≤ nI u := nI_ge (by omega) (by omega)
    have h := yw_w15 (post := post) (J := wY_weightOf_4 post x (nI n) a (d + 1)) (x := x) (a := a) hn (u := u) (by omega) (zs_S (fun u => zs_S (yw_t a x u) n) u) (ih (u + 1) (by omega)) n 0 (by omega)
    rw [zs_0, Int.add_zero] at h
    exact br_f hnv ⟨n + 1, h⟩
theorem yw_w {post : Int32 → Prop} {x : Int32} {n : Nat} {a : Nat → Int32} (hn : n ≤ 8) (K : post (iz_I (dw_D n (tb_f a) (bt x)))) : wpY_weightOf post (nI n, a) x := Exists.intro (n + 1) (yw_w4 hn K n 0 (by omega))
/-! the least of the numbers D j, for j below k with Q j; -1 if there is none -/
def mn_I (Q : Nat → Prop) (D : Nat → Int) (k : Nat) (m : Int) : Prop := (m = -1 ∧ ∀ j, 1 ≤ j → j < k → ¬ Q j) ∨ (0 ≤ m ∧ m ≤ 3200 ∧ (∃ j, 1 ≤ j ∧ j < k ∧ Q j ∧ D j = m) ∧ ∀ j, 1 ≤ j → j < k → Q j → m ≤ D j)
theorem mn_0 (Q : Nat → Prop) (D : Nat → Int) : mn_I Q D 1 (-1) := Or.inl ⟨rfl, fun j h1 h2 => absurd h1 (by omega)⟩
theorem mn_r {Q : Nat → Prop} {D : Nat → Int} {k : Nat} {m : Int} (h : mn_I Q D k m) : -1 ≤ m ∧ m ≤ 3200 := by
  rcases h with ⟨h, _⟩ | ⟨h1, h2, _⟩ <;> omega
theorem mn_no {Q : Nat → Prop} {D : Nat → Int} {k : Nat} {m : Int} (h : mn_I Q D k m) (q : ¬ Q k) : mn_I Q D (k + 1) m := by
  rcases h with ⟨h, a⟩ | ⟨h1, h2, ⟨j, j1, j2, j3, j4⟩, a⟩
  · refine Or.inl ⟨h, fun j h1 h2 => ?_⟩
    by_cases e : j = k
    · rw [e]; exact q
    · exact a j h1 (by omega)
  · refine Or.inr ⟨h1, h2, ⟨j, j1, by omega, j3, j4⟩, fun i h3 h4 h5 => ?_⟩
    by_cases e : i = k
    · rw [e] at h5; exact absurd h5 q
    · exact a i h3 (by omega) h5
theorem mn_lt {Q : Nat → Prop} {D : Nat → Int} {k : Nat} {m : Int} (h : mn_I Q D k m) (h0 : 1 ≤ k) (q : Q k) (d : 0 ≤ D k ∧ D k ≤ 3200) (hm : m < 0 ∨ D k ≤ m) : mn_I Q D (k + 1) (D k) := by
  refine Or.inr ⟨d.1, d.2, ⟨k, h0, by omega, q, rfl⟩, fun j h1 h2 h3 => ?_⟩
  by_cases e : j = k
  · rw [e]; exact Int.le_refl _
  · rcases h with ⟨_, a⟩ | ⟨a1, _, _, a⟩
    · exact absurd h3 (a j h1 (by omega))
    · have := a j h1 (by omega) h3
      omega
theorem mn_ge {Q : Nat → Prop} {D : Nat → Int} {k : Nat} {m : Int} (h : mn_I Q D k m) (h0 : ¬ m < 0) (hm : m ≤ D k) : mn_I Q D (k + 1) m := by
  rcases h with ⟨e, _⟩ | ⟨h1, h2, ⟨j, j1, j2, j3, j4⟩, a⟩
  · omega
  · refine Or.inr ⟨h1, h2, ⟨j, j1, by omega, j3, j4⟩, fun i h3 h4 h5 => ?_⟩
    by_cases e : i = k
    · rw [e]; exact hm
    · exact a i h3 (by omega) h5
theorem mn_lt0 {m : Int} (h : -1 ≤ m ∧ m ≤ 3200) : iz_I m < 0 ↔ m < 0 := by
  rw [← iz_0, iz_lt (by omega) (by omega)]
/-- the cut with number j parts u from v -/
def yw_Q (u v : Nat) (j : Nat) : Prop := bt (nI j) u = true ∧ bt (nI j) v = false
def yw_W (n : Nat) (a : Nat → Int32) (j : Nat) : Int := dw_D n (tb_f a) (bt (nI j))
theorem yw_Wr {n : Nat} {a : Nat → Int32} (hC : dw_C n (tb_f a)) (j : Nat) : 0 ≤ yw_W n a j ∧ yw_W n a j ≤ 3200 := ⟨dw_nn hC _, dw_bd hC _⟩
theorem yw_l5 {post : Int32 → Prop} {n : Nat} {a : Nat → Int32} {u v : Nat} (hC : dw_C n (tb_f a)) (hu : u < n) (hv : v < n) (K : ∀ m, mn_I (yw_Q u v) (yw_W n a) (2 ^ n - 1) m → post (iz_I m)) : ∀ d k m, k + d = 2 ^ n - 1 → 1 ≤ k → mn_I (yw_Q u v) (yw_W n a) k m → wY_linkOf_5 post (nI u) (nI v) (nI n) a (d + 1) (iz_I m) (nI k) := by
  have hn := hC.1
  have hp := yw_pw hn
  intro d
  induction d with
  | zero =>
    intro k m hk h1 I
    have : k = 2 ^ n - 1 := by omega
    rw [wY_linkOf_5]
    refine yw_all hn ?_
    rw [← this]
    rw [← this] at K
    exact br_t (Int32.le_refl _) (K m I)
  | succ d ih =>
    intro k m hk h1 I
    rw [wY_linkOf_5]
    refine yw_all hn (br_f (nI_ge (by omega) (by omega)) ?_)
    have hr := mn_r I
    have hw := yw_Wr hC k
    cases hb : bt (nI k) u
    · exact yw_in0 (by omega) hb (br_t rfl (nm_r (nI_1 k) (ih (k + 1) m (by omega) (by omega) (mn_no I (fun z => by rw [z.1] at hb; cases hb)))))
    · refine yw_in1 (by omega) hb (br_f (by decide) ?_)
      cases hc : bt (nI k) v
      · refine yw_in0 (by omega) hc (br_t rfl (yw_w hn ?_))
        refine br_c (fun h => nm_r (nI_1 k) (ih (k + 1) _ (by omega) (by omega) (mn_lt I h1 ⟨hb, hc⟩ hw (Or.inl ((mn_lt0 hr).mp h))))) (fun h => ?_)
        have h0 : ¬ m < 0 := fun z => h ((mn_lt0 hr).mpr z)
        refine br_c (fun h2 => nm_r (nI_1 k) (ih (k + 1) m (by omega) (by omega) (mn_ge I h0 ?_))) (fun h2 => nm_r (nI_1 k) (ih (k + 1) _ (by omega) (by omega) (mn_lt I h1 ⟨hb, hc⟩ hw (Or.inr ?_))))
        · exact (iz_le (b := yw_W n a k) (by omega) (by omega)).mp h2
        · have h3 : ¬ m ≤ yw_W n a k := fun z => h2 ((iz_le (a := m) (b := yw_W n a k) (by omega) (by omega)).mpr z)
          omega
      · exact yw_in1 (by omega) hc (br_f (by decide) (nm_r (nI_1 k) (ih (k + 1) m (by omega) (by omega) (mn_no I (fun z => by rw [z.2] at hc; cases hc)))))
/-- every set that parts has a number -/
theorem yw_cd {n : Nat} (hn : n ≤ 8) {S : Nat → Bool} {u v : Nat} (hu : u < n) (hv : v < n) (a : S u = true) (b : S v = false) : 1 ≤ cd_N S n ∧ cd_N S n < 2 ^ n - 1 ∧ yw_Q u v (cd_N S n) := ⟨cd_pos hu a, cd_top hv b, (cd_bt S hn hu).trans a, (cd_bt S hn hv).trans b⟩
theorem yw_cw {n : Nat} (hn : n ≤ 8) (a : Nat → Int32) (S : Nat → Bool) : yw_W n a (cd_N S n) = dw_D n (tb_f a) S := dw_cg (fun u hu => cd_bt S hn hu)
theorem yw_lm {n : Nat} {a : Nat → Int32} {u v : Nat} (hC : dw_C n (tb_f a)) (hu : u < n) (hv : v < n) (huv : u ≠ v) {m : Int} (I : mn_I (yw_Q u v) (yw_W n a) (2 ^ n - 1) m) : lm_L n (tb_f a) u v = m := by
  apply lm_eq hC
  rcases I with ⟨_, h⟩ | ⟨_, _, ⟨j, j1, j2, j3, j4⟩, h⟩
  · obtain ⟨c1, c2, c3⟩ := yw_cd hC.1 (S := fun i => decide (i = u)) hu hv (by simp) (by simp; omega)
    exact absurd c3 (h _ c1 c2)
  · refine ⟨⟨bt (nI j), j3.1, j3.2, j4⟩, fun S a1 a2 => ?_⟩
    obtain ⟨c1, c2, c3⟩ := yw_cd hC.1 (S := S) hu hv a1 a2
    have := h _ c1 c2 c3
    rw [yw_cw hC.1] at this
    exact this
theorem yw_lk {post : Int32 → Prop} {n : Nat} {a : Nat → Int32} {u v : Nat} (hC : dw_C n (tb_f a)) (hu : u < n) (hv : v < n) (huv : u ≠ v) (K : post (iz_I (lm_L n (tb_f a) u v))) : wpY_linkOf post (nI n, a) (nI u) (nI v) := by
  have hp := yw_p0 n
  have h2 : 2 ≤ 2 ^ n := by
    have : 2 ^ 1 ≤ 2 ^ n := Nat.pow_le_pow_right (n := 2) (by decide) (by omega)
    omega
  exact Exists.intro ((2 ^ n - 2) + 1) (yw_l5 hC hu hv (fun m I => by rw [yw_lm hC hu hv huv I] at K; exact K) (2 ^ n - 2) 1 (-1) (by omega) (by omega) (mn_0 _ _))
theorem yw_s4 {post : Int32 → Prop} {n : Nat} {a : Nat → Int32} (hC : dw_C n (tb_f a)) (K : ∀ m, mn_I (fun _ => True) (yw_W n a) (2 ^ n - 1) m → post (iz_I m)) : ∀ d k m, k + d = 2 ^ n - 1 → 1 ≤ k → mn_I (fun _ => True) (yw_W n a) k m → wY_smallest_4 post (nI n) a (d + 1) (iz_I m) (nI k) := by
  have hn := hC.1
  have hp := yw_pw hn
  intro d
  induction d with
  | zero =>
    intro k m hk h1 I
    have : k = 2 ^ n - 1 := by omega
    rw [wY_smallest_4]
    refine yw_all hn ?_
    rw [← this]
    rw [← this] at K
    exact br_t (Int32.le_refl _) (K m I)
  | succ d ih =>
    intro k m hk h1 I
    rw [wY_smallest_4]
    refine yw_all hn (br_f (nI_ge (by omega) (by omega)) ?_)
    have hr := mn_r I
    have hw := yw_Wr hC k
    refine yw_w hn ?_
    refine br_c (fun h => nm_r (nI_1 k) (ih (k + 1) _ (by omega) (by omega) (mn_lt I h1 trivial hw (Or.inl ((mn_lt0 hr).mp h))))) (fun h => ?_)
    have h0 : ¬ m < 0 := fun z => h ((mn_lt0 hr).mpr z)
    refine br_c (fun h2 => nm_r (nI_1 k) (ih (k + 1) m (by omega) (by omega) (mn_ge I h0 ?_))) (fun h2 => nm_r (nI_1 k) (ih (k + 1) _ (by omega) (by omega) (mn_lt I h1 trivial hw (Or.inr ?_))))
    · exact (iz_le (b := yw_W n a k) (by omega) (by omega)).mp h2
    · have h3 : ¬ m ≤ yw_W n a k := fun z => h2 ((iz_le (a := m) (b := yw_W n a k) (by omega) (by omega)).mpr z)
      omega
theorem yw_sm {post : Int32 → Prop} {n : Nat} {a : Nat → Int32} (hC : dw_C n (tb_f a)) (h2 : 2 ≤ n) (K : ∀ m, mn_I (fun _ => True) (yw_W n a) (2 ^ n - 1) m → post (iz_I m)) : wpY_smallest post (nI n, a) := by
  have h2 : 2 ≤ 2 ^ n := by
    have : 2 ^ 1 ≤ 2 ^ n := Nat.pow_le_pow_right (n := 2) (by decide) (by omega)
    omega
  exact Exists.intro ((2 ^ n - 2) + 1) (yw_s4 hC K (2 ^ n - 2) 1 (-1) (by omega) (by omega) (mn_0 _ _))
/-! sizeOf, side -/
theorem yw_z4 {post : Int32 → Prop} {x : Int32} {n : Nat} {a : Nat → Int32} (hn : n ≤ 8) (K : post (nI (cn_N (bt x) n))) : ∀ d v, v + d = n → wY_sizeOf_4 post x (nI n) a (d + 1) (nI (cn_N (bt x) v)) (nI v) := by
  intro d
  induction d with
  | zero =>
    intro v hv
    have : v = n := by omega
    subst this
    exact br_t (Int32.le_refl _) K
  | succ d ih =>
    intro v hv
    have hnv : ¬ nI n ≤ nI v := nI_ge (by omega) (by omega)
    have step := ih (v + 1) (by omega)
    rw [cn_s] at step
    refine br_f hnv ?_
    cases hb : bt x v
    · rw [hb, if_neg Bool.false_ne_true, Nat.add_zero] at step
      exact yw_in0 (by omega) hb (br_t rfl (nm_r (nI_1 v) step))
    · rw [hb, if_pos rfl] at step
      exact yw_in1 (by omega) hb (br_f (by decide) (nm_r (nI_1 _) (nm_r (nI_1 v) step)))
theorem yw_z {post : Int32 → Prop} {x : Int32} {n : Nat} {a : Nat → Int32} (hn : n ≤ 8) (K : post (nI (cn_N (bt x) n))) : wpY_sizeOf post (nI n, a) x := Exists.intro (n + 1) (yw_z4 hn K n 0 (by omega))
def sd_Q (n : Nat) (a : Nat → Int32) (u v : Nat) (L : Int) (j : Nat) : Prop := yw_Q u v j ∧ yw_W n a j = L
def sd_N (n j : Nat) : Nat := cn_N (bt (nI j)) n
def sd_I (n : Nat) (a : Nat → Int32) (u v : Nat) (L : Int) (k b : Nat) : Prop := (b = 0 ∧ ∀ j, 1 ≤ j → j < k → ¬ sd_Q n a u v L j) ∨ (1 ≤ b ∧ b < k ∧ sd_Q n a u v L b ∧ ∀ j, 1 ≤ j → j < k → sd_Q n a u v L j → sd_N n b ≤ sd_N n j)
theorem sd_no {n : Nat} {a : Nat → Int32} {u v : Nat} {L : Int} {k b : Nat} (h : sd_I n a u v L k b) (q : ¬ sd_Q n a u v L k) : sd_I n a u v L (k + 1) b := by
  rcases h with ⟨h, z⟩ | ⟨h1, h2, h3, z⟩
  · refine Or.inl ⟨h, fun j h1 h2 => ?_⟩
    by_cases e : j = k
    · rw [e]; exact q
    · exact z j h1 (by omega)
  · refine Or.inr ⟨h1, by omega, h3, fun i h4 h5 h6 => ?_⟩
    by_cases e : i = k
    · rw [e] at h6; exact absurd h6 q
    · exact z i h4 (by omega) h6
theorem sd_ge {n : Nat} {a : Nat → Int32} {u v : Nat} {L : Int} {k b : Nat} (h : sd_I n a u v L k b) (h0 : b ≠ 0) (hm : sd_N n b ≤ sd_N n k) : sd_I n a u v L (k + 1) b := by
  rcases h with ⟨h, z⟩ | ⟨h1, h2, h3, z⟩
  · exact absurd h h0
  · refine Or.inr ⟨h1, by omega, h3, fun i h4 h5 h6 => ?_⟩
    by_cases e : i = k
    · rw [e]; exact hm
    · exact z i h4 (by omega) h6
theorem sd_lt {n : Nat} {a : Nat → Int32} {u v : Nat} {L : Int} {k b : Nat} (h : sd_I n a u v L k b) (h1 : 1 ≤ k) (q : sd_Q n a u v L k) (hm : b = 0 ∨ sd_N n k ≤ sd_N n b) : sd_I n a u v L (k + 1) k := by
  refine Or.inr ⟨h1, by omega, q, fun j h4 h5 h6 => ?_⟩
  by_cases e : j = k
  · rw [e]; exact Nat.le_refl _
  · rcases h with ⟨h, z⟩ | ⟨z1, z2, z3, z⟩
    · exact absurd h6 (z j h4 (by omega))
    · have := z j h4 (by omega) h6
      omega
theorem sd_b {n : Nat} {a : Nat → Int32} {u v : Nat} {L : Int} {k b : Nat} (h : sd_I n a u v L k b) (h1 : 1 ≤ k) : b < k := by
  rcases h with ⟨h, z⟩ | ⟨z1, z2, z3, z⟩ <;> omega
theorem sd_67 {post : Int32 → Prop} {J : Int32 → Int32 → Prop} {x1 x2 x3 : Int32} {n k b : Nat} {a : Nat → Int32} (K : J (nI b) (nI (k + 1))) : wY_side_67 post J x1 x2 x3 (nI b) (nI k) (nI n) a := br_t rfl (nm_r (nI_1 k) K)
theorem sd_24 {post : Int32 → Prop} {n : Nat} {a : Nat → Int32} {u v : Nat} {L : Int} (hC : dw_C n (tb_f a)) (hL : 0 ≤ L ∧ L ≤ 3200) (hu : u < n) (hv : v < n) (K : ∀ b, sd_I n a u v L (2 ^ n - 1) b → post (nI b)) : ∀ d k b, k + d = 2 ^ n - 1 → 1 ≤ k → sd_I n a u v L k b → wY_side_24 post (nI u) (nI v) (iz_I L) (nI n) a (d + 1) (nI b) (nI k) := by
  have hn := hC.1
  have hp := yw_pw hn
  intro d
  induction d with
  | zero =>
    intro k b hk h1 I
    have : k = 2 ^ n - 1 := by omega
    rw [wY_side_24]
    refine yw_all hn ?_
    rw [← this]
    rw [← this] at K
    exact br_t (Int32.le_refl _) (K b I)
  | succ d ih =>
    intro k b hk h1 I
    rw [wY_side_24]
    refine yw_all hn (br_f (nI_ge (by omega) (by omega)) ?_)
    have hw := yw_Wr hC k
    have hbk := sd_b I h1
    cases hb : bt (nI k) u
    · exact yw_in0 (by omega) hb (br_t rfl (sd_67 (ih (k + 1) b (by omega) (by omega) (sd_no I (fun z => by rw [z.1.1] at hb; cases hb)))))
    · refine yw_in1 (by omega) hb (br_f (by decide) ?_)
      cases hc : bt (nI k) v
      · refine yw_in0 (by omega) hc (br_t rfl (yw_w hn ?_))
        refine br_c (fun h => ?_) (fun h => sd_67 (ih (k + 1) b (by omega) (by omega) (sd_no I (fun z => h ?_))))
        · have e : yw_W n a k = L := (iz_eq (a := yw_W n a k) (by omega) (by omega)).mp h
          refine br_f (by decide) (br_c (fun h2 => nm_r (nI_1 k) (ih (k + 1) k (by omega) (by omega) (sd_lt I h1 ⟨⟨hb, hc⟩, e⟩ (Or.inl ?_)))) (fun h2 => yw_z hn (yw_z hn ?_)))
          · exact (nI_eq (b := 0) (by omega) (by omega)).mp h2
          · have h0 : b ≠ 0 := fun z => h2 (by rw [z]; rfl)
            have c1 := cn_le (bt (nI k)) n
            have c2 := cn_le (bt (nI b)) n
            refine br_c (fun h3 => nm_r (nI_1 k) (ih (k + 1) b (by omega) (by omega) (sd_ge I h0 ?_))) (fun h3 => nm_r (nI_1 k) (ih (k + 1) k (by omega) (by omega) (sd_lt I h1 ⟨⟨hb, hc⟩, e⟩ (Or.inr ?_))))
            · exact (nI_leI (a := cn_N (bt (nI b)) n) (b := cn_N (bt (nI k)) n) (by omega) (by omega)).mp h3
            · have h4 : ¬ cn_N (bt (nI b)) n ≤ cn_N (bt (nI k)) n := fun z => h3 ((nI_leI (by omega) (by omega)).mpr z)
              show cn_N (bt (nI k)) n ≤ cn_N (bt (nI b)) n
              omega
        · have e : yw_W n a k = L := z.2
          rw [← e]
          rfl
      · exact yw_in1 (by omega) hc (br_f (by decide) (sd_67 (ih (k + 1) b (by omega) (by omega) (sd_no I (fun z => by rw [z.1.2] at hc; cases hc)))))
/-- the least set is what side answers -/
theorem sd_end {n : Nat} {a : Nat → Int32} {u v : Nat} {re : Int32} {b : Nat} (hC : dw_C n (tb_f a)) (hu : u < n) (hv : v < n) (r1 : bt re u = true) (r2 : bt re v = false) (r3 : ∀ i, bt re i = true → i < n) (r4 : dw_D n (tb_f a) (bt re) = lm_L n (tb_f a) u v) (r5 : ∀ S : Nat → Bool, S u = true → S v = false → dw_D n (tb_f a) S = lm_L n (tb_f a) u v → ∀ i, bt re i = true → S i = true) (I : sd_I n a u v (lm_L n (tb_f a) u v) (2 ^ n - 1) b) : nI b = re := by
  have hn := hC.1
  have hp := yw_pw hn
  obtain ⟨c1, c2, c3⟩ := yw_cd hn (S := bt re) hu hv r1 r2
  have q : sd_Q n a u v (lm_L n (tb_f a) u v) (cd_N (bt re) n) := ⟨c3, (yw_cw hn a (bt re)).trans r4⟩
  rcases I with ⟨_, z⟩ | ⟨z1, z2, z3, z⟩
  · exact absurd q (z _ c1 c2)
  · have h1 := z _ c1 c2 q
    have e1 : sd_N n (cd_N (bt re) n) = cn_N (bt re) n := cn_cg (fun i hi => cd_bt (bt re) hn hi)
    have h2 := cn_eq (S := bt re) (T := bt (nI b)) (n := n) (fun i _ h => r5 (bt (nI b)) z3.1.1 z3.1.2 z3.2 i h) (by
      rw [e1] at h1
      exact h1)
    apply b_ext
    intro i hi
    rcases Nat.lt_or_ge i n with y | y
    · exact (h2 i y).symm
    · have h3 : bt re i = false := by
        cases e : bt re i
        · rfl
        · have := r3 i e
          omega
      rw [h3, bz_nI _ hi]
      apply Nat.testBit_lt_two_pow
      have : 2 ^ n ≤ 2 ^ i := Nat.pow_le_pow_right (n := 2) (by decide) y
      omega
/-! groupOf -/
noncomputable def gr_B (n : Nat) (a : Nat → Int32) (u : Nat) (k : Int32) (v i : Nat) : Bool := decide (i = u) || (decide (i < v) && !decide (iz_I (lm_L n (tb_f a) u i) < k))
theorem gr_7 {post : Int32 → Prop} {n : Nat} {a : Nat → Int32} {u : Nat} {k : Int32} (hC : dw_C n (tb_f a)) (hu : u < n) (K : ∀ G : Int32, (∀ i, bt G i = gr_B n a u k n i) → post G) : ∀ d v G, v + d = n → (∀ i, bt G i = gr_B n a u k v i) → wY_groupOf_7 post (nI u) k (nI n) a (d + 1) G (nI v) := by
  have hn := hC.1
  intro d
  induction d with
  | zero =>
    intro v G hv I
    have : v = n := by omega
    subst this
    exact br_t (Int32.le_refl _) (K G I)
  | succ d ih =>
    intro v G hv I
    have hnv : ¬ nI n ≤ nI v := nI_ge (by omega) (by omega)
    have hs : ∀ i, i ≠ v → gr_B n a u k (v + 1) i = gr_B n a u k v i := by
      intro i hi
      have : decide (i < v + 1) = decide (i < v) := by
        by_cases z : i < v
        · rw [decide_eq_true z, decide_eq_true (by omega)]
        · rw [decide_eq_false z, decide_eq_false (by omega)]
      unfold gr_B
      rw [this]
    refine br_f hnv ?_
    by_cases e : v = u
    · subst e
      refine br_t rfl (nm_r (nI_1 v) (ih (v + 1) G (by omega) (fun i => ?_)))
      by_cases z : i = v
      · rw [I, z]; simp [gr_B]
      · rw [I, hs i z]
    · refine br_f (fun z => e ((nI_eq (by omega) (by omega)).mp z)) (yw_lk hC hu (by omega) (fun z => e z.symm) ?_)
      refine br_c (fun h => nm_r (nI_1 v) (ih (v + 1) G (by omega) (fun i => ?_))) (fun h => nm_e (nm_r (nI_1 v) (ih (v + 1) _ (by omega) (fun i => ?_))))
      · by_cases z : i = v
        · rw [I, z]; simp [gr_B, h]
        · rw [I, hs i z]
      · rw [bz_set G (by omega), I]
        by_cases z : i = v
        · rw [z]; simp [gr_B, h]
        · rw [hs i z, decide_eq_false z, Bool.or_false]
theorem gr_o {post : Int32 → Prop} {n : Nat} {a : Nat → Int32} {u : Nat} {k : Int32} (hC : dw_C n (tb_f a)) (hu : u < n) (K : ∀ G : Int32, (∀ i, bt G i = gr_B n a u k n i) → post G) : wpY_groupOf post (nI n, a) (nI u) k := by
  have hn := hC.1
  refine nm_e ⟨n + 1, gr_7 hC hu K n 0 _ (by omega) (fun i => ?_)⟩
  rw [bz_s (by omega)]
  unfold gr_B
  rw [decide_eq_false (p := i < 0) (by omega), Bool.false_and, Bool.or_false]
end
section
/-! the component: the search -/
/-- room from u to v -/
def xs_g (caps fl : Nat → Int32) (u v : Nat) : Prop := tb_f fl u v < tb_f caps u v
/-- the search under way -/
def bf_B (n s : Nat) (g : Nat → Nat → Prop) (re : Int32) (cf qu : Nat → Int32) (par q rk : Nat → Nat) (e : Nat) : Prop :=
  bt re s = true ∧ cn_N (bt re) n = e ∧ (∀ i, i < e → qu i = nI (q i) ∧ q i < n ∧ bt re (q i) = true ∧ rk (q i) = i) ∧ (∀ v, bt re v = true → v < n ∧ rk v < e ∧ q (rk v) = v) ∧ ∀ v, bt re v = true → v ≠ s → cf v = nI (par v) ∧ bt re (par v) = true ∧ rk (par v) < rk v ∧ g (par v) v
theorem cn_zero (n : Nat) : cn_N (fun _ => false) n = 0 := by
  induction n with
  | zero => rfl
  | succ n ih => rw [cn_s, ih]; rfl
theorem cn_one {S : Nat → Bool} {n s : Nat} (hs : s < n) (h : ∀ i, S i = decide (i = s)) : cn_N S n = 1 := by
  rw [cn_set (S := fun _ => false) hs rfl (fun i _ => by rw [h, Bool.false_or]), cn_zero]
theorem bf_lt {n s : Nat} {g : Nat → Nat → Prop} {re : Int32} {cf qu : Nat → Int32} {par q rk : Nat → Nat} {e v : Nat} (B : bf_B n s g re cf qu par q rk e) (hv : v < n) (h : bt re v = false) : e < n := by
  rw [← B.2.1]
  exact cn_lt hv h
theorem bf_add {n s : Nat} {g : Nat → Nat → Prop} {re : Int32} {cf qu : Nat → Int32} {par q rk : Nat → Nat} {e u v : Nat} (hn : n ≤ 8) (B : bf_B n s g re cf qu par q rk e) (hv : v < n) (h : bt re v = false) (hu : bt re u = true) (hg : g u v) :
    bf_B n s g (re ||| ((1 : Int32) <<< (nI v &&& 31))) (upd cf v (nI u)) (upd qu e (nI v)) (fun i => if i = v then u else par i) (fun i => if i = e then v else q i) (fun i => if i = v then e else rk i) (e + 1) := by
  have hb : ∀ i, bt (re ||| ((1 : Int32) <<< (nI v &&& 31))) i = (bt re i || decide (i = v)) := fun i => bz_set re (by omega) i
  have hb1 : ∀ i, bt re i = true → bt (re ||| ((1 : Int32) <<< (nI v &&& 31))) i = true := fun i hi => by rw [hb, hi, Bool.true_or]
  have hne : ∀ i, bt re i = true → i ≠ v := fun i hi z => by rw [z, h] at hi; cases hi
  obtain ⟨b1, b2, b3, b4, b5⟩ := B
  refine ⟨hb1 s b1, ?_, ?_, ?_, ?_⟩
  · rw [cn_set hv h (fun i _ => hb i), b2]
  · intro i hi
    by_cases z : i = e
    · subst z
      simp only [if_pos]
      exact ⟨pk_us, hv, by rw [hb]; simp, trivial⟩
    · obtain ⟨c1, c2, c3, c4⟩ := b3 i (by omega)
      simp only [if_neg z, if_neg (hne _ c3)]
      exact ⟨by rw [pk_un z]; exact c1, c2, hb1 _ c3, c4⟩
  · intro w hw
    by_cases z : w = v
    · subst z
      simp only [if_pos]
      exact ⟨hv, by omega, trivial⟩
    · have hw' : bt re w = true := by
        rw [hb, decide_eq_false z, Bool.or_false] at hw
        exact hw
      obtain ⟨c1, c2, c3⟩ := b4 w hw'
      have c4 : rk w ≠ e := by omega
      simp only [if_neg z, if_neg c4]
      exact ⟨c1, by omega, c3⟩
  · intro w hw hws
    by_cases z : w = v
    · subst z
      simp only [if_pos, if_neg (hne _ hu)]
      exact ⟨pk_us, hb1 _ hu, (b4 u hu).2.1, hg⟩
    · have hw' : bt re w = true := by
        rw [hb, decide_eq_false z, Bool.or_false] at hw
        exact hw
      obtain ⟨c1, c2, c3, c4⟩ := b5 w hw' hws
      simp only [if_neg z, if_neg (hne _ c2)]
      exact ⟨by rw [pk_un z]; exact c1, hb1 _ c2, c3, c4⟩
theorem xs_38 {post : Int32 → SX → Prop} {J : Int32 → Int32 → Int32 → (Nat → Int32) → (Nat → Int32) → (Nat → Int32) → (Nat → Int32) → (Nat → Int32) → (Nat → Int32) → Prop} {x2 fb : Int32} {n s k u : Nat} {caps fl ho hb : Nat → Int32} (hn : n ≤ 8) (hu : u < n)
    (K : ∀ e re cf qu par q rk, bf_B n s (xs_g caps fl) re cf qu par q rk e → k < e → (∀ i, i < k + 1 → ∀ w, w < n → bt re w = true ∨ ¬ xs_g caps fl (q i) w) → J (nI e) (nI (k + 1)) re caps fl cf qu ho hb) :
    ∀ d v e re cf qu par q rk, v + d = n → bf_B n s (xs_g caps fl) re cf qu par q rk e → k < e → q k = u → (∀ i, i < k → ∀ w, w < n → bt re w = true ∨ ¬ xs_g caps fl (q i) w) → (∀ w, w < v → bt re w = true ∨ ¬ xs_g caps fl u w) → wX_search_38 post J x2 (nI k) (nI u) (nI n) fb (d + 1) (nI e) (nI v) re caps fl cf qu ho hb := by
  intro d
  induction d with
  | zero =>
    intro v e re cf qu par q rk hv B hk hq h1 h2
    have : v = n := by omega
    subst this
    refine br_t (Int32.le_refl _) (nm_r (nI_1 k) (K e re cf qu par q rk B hk (fun i hi w hw => ?_)))
    by_cases z : i = k
    · rw [z, hq]; exact h2 w hw
    · exact h1 i (by omega) w hw
  | succ d ih =>
    intro v e re cf qu par q rk hv B hk hq h1 h2
    have hnv : ¬ nI n ≤ nI v := nI_ge (by omega) (by omega)
    refine br_f hnv ?_
    cases hb' : bt re v
    · refine br_t ((bz_0 re (by omega)).mpr hb') ⟨ix_v (by omega) (by omega), ix_v (by omega) (by omega), ?_⟩
      by_cases g : xs_g caps fl u v
      · have hc : fl ((8 : Int32) * nI u + nI v).toNatClampNeg < caps ((8 : Int32) * nI u + nI v).toNatClampNeg := by
          rw [ix_c (by omega) (by omega)]
          exact Int32.lt_iff_toInt_lt.mpr g
        have he := bf_lt B (by omega) hb'
        have e1 : upd cf (nI v).toNatClampNeg (vp_nar .byte (nI u).toInt8.toInt32) = upd cf v (nI u) := by rw [nI_clamp (by omega), bz_b (by omega)]
        have e2 : upd qu (nI e).toNatClampNeg (vp_nar .byte (nI v).toInt8.toInt32) = upd qu e (nI v) := by rw [nI_clamp (by omega), bz_b (by omega)]
        have hru : bt re u = true := by rw [← hq]; exact (B.2.2.1 k hk).2.2.1
        refine br_t hc (nm_e ⟨vp_in_nI (by omega) (by decide), nm_r e1 ⟨vp_in_nI (by omega) (by decide), nm_r e2 (nm_r (nI_1 e) (nm_r (nI_1 v) ?_))⟩⟩)
        have hbs : ∀ i, bt (re ||| ((1 : Int32) <<< (nI v &&& 31))) i = (bt re i || decide (i = v)) := fun i => bz_set re (by omega) i
        refine ih (v + 1) (e + 1) _ _ _ _ _ _ (by omega) (bf_add hn B (by omega) hb' hru g) (by omega) ?_ ?_ ?_
        · show (if k = e then v else q k) = u
          rw [if_neg (by omega)]
          exact hq
        · intro i hi w hw
          show _ ∨ ¬ xs_g caps fl (if i = e then v else q i) w
          rw [if_neg (by omega), hbs]
          rcases h1 i hi w hw with z | z
          · rw [z]; exact Or.inl rfl
          · exact Or.inr z
        · intro w hw
          rw [hbs]
          by_cases z : w = v
          · rw [decide_eq_true z, Bool.or_true]; exact Or.inl rfl
          · rcases h2 w (by omega) with y | y
            · rw [y]; exact Or.inl rfl
            · exact Or.inr y
      · have hc : ¬ fl ((8 : Int32) * nI u + nI v).toNatClampNeg < caps ((8 : Int32) * nI u + nI v).toNatClampNeg := by
          rw [ix_c (by omega) (by omega)]
          exact fun z => g (Int32.lt_iff_toInt_lt.mp z)
        refine br_f hc (nm_r (nI_1 v) (ih (v + 1) e re cf qu par q rk (by omega) B hk hq h1 (fun w hw => ?_)))
        by_cases z : w = v
        · rw [z]; exact Or.inr g
        · exact h2 w (by omega)
    · refine br_f (fun z => by rw [(bz_0 re (by omega)).mp z] at hb'; cases hb') (nm_r (nI_1 v) (ih (v + 1) e re cf qu par q rk (by omega) B hk hq h1 (fun w hw => ?_)))
      by_cases z : w = v
      · rw [z]; exact Or.inl hb'
      · exact h2 w (by omega)
theorem bf_end {n s : Nat} {g : Nat → Nat → Prop} {re : Int32} {cf qu : Nat → Int32} {par q rk : Nat → Nat} {e k : Nat} (B : bf_B n s g re cf qu par q rk e) (hk : e ≤ k) (h : ∀ i, i < k → ∀ w, w < n → bt re w = true ∨ ¬ g (q i) w) : bf_E n s g re cf par rk := by
  refine ⟨B.1, fun v hv => (B.2.2.2.1 v hv).1, B.2.2.2.2, fun u v hu hv hr => ?_⟩
  obtain ⟨c1, c2, c3⟩ := B.2.2.2.1 u hu
  rcases h (rk u) (by omega) v hv with z | z
  · rw [hr] at z; cases z
  · rw [c3] at z; exact z
theorem xs_20 {post : Int32 → SX → Prop} {fb : Int32} {n s t : Nat} {caps fl ho hb : Nat → Int32} (hn : n ≤ 8) (ht : t < n)
    (K0 : ∀ re cf qu par rk, bf_E n s (xs_g caps fl) re cf par rk → bt re t = false → post 0 (nI n, re, fb, caps, fl, cf, qu, ho, hb))
    (K1 : ∀ re cf qu par rk, bf_E n s (xs_g caps fl) re cf par rk → bt re t = true → post 1 (nI n, re, fb, caps, fl, cf, qu, ho, hb)) :
    ∀ d k e re cf qu par q rk, k + d = n → bf_B n s (xs_g caps fl) re cf qu par q rk e → k ≤ e → (∀ i, i < k → ∀ w, w < n → bt re w = true ∨ ¬ xs_g caps fl (q i) w) → wX_search_20 post (nI t) (nI n) fb (d + 1) (nI e) (nI k) re caps fl cf qu ho hb := by
  have fin : ∀ d k e re cf qu par q rk, bf_B n s (xs_g caps fl) re cf qu par q rk e → e ≤ k → k ≤ n → (∀ i, i < k → ∀ w, w < n → bt re w = true ∨ ¬ xs_g caps fl (q i) w) → wX_search_20 post (nI t) (nI n) fb (d + 1) (nI e) (nI k) re caps fl cf qu ho hb := by
    intro d k e re cf qu par q rk B hk hkn h
    have E := bf_end B hk h
    refine br_t (nI_le hk (by omega)) ?_
    cases z : bt re t
    · exact br_t ((bz_0 re (by omega)).mpr z) (K0 re cf qu par rk E z)
    · exact br_f (fun y => by rw [(bz_0 re (by omega)).mp y] at z; cases z) (K1 re cf qu par rk E z)
  intro d
  induction d with
  | zero =>
    intro k e re cf qu par q rk hk B he h
    have := cn_le (bt re) n
    rw [B.2.1] at this
    exact fin 0 k e re cf qu par q rk B (by omega) (by omega) h
  | succ d ih =>
    intro k e re cf qu par q rk hk B he h
    rcases Nat.lt_or_ge k e with z | z
    · have hen := cn_le (bt re) n
      rw [B.2.1] at hen
      obtain ⟨c1, c2, c3, c4⟩ := B.2.2.1 k z
      refine br_f (nI_ge z (by omega)) ⟨vp_in_nI (by omega) (by decide), nm_r (e' := nI (q k)) (by rw [nI_clamp (by omega), c1]) ⟨n + 1, ?_⟩⟩
      exact xs_38 hn c2 (fun e re cf qu par q rk B hk' h' => ih (k + 1) e re cf qu par q rk (by omega) B (by omega) h') n 0 e re cf qu par q rk (by omega) B z rfl h (fun w hw => absurd hw (by omega))
    · exact fin (d + 1) k e re cf qu par q rk B z (by omega) h
theorem xs_s {post : Int32 → SX → Prop} {re fb : Int32} {n s t : Nat} {caps fl cf qu ho hb : Nat → Int32} (hn : n ≤ 8) (hs : s < n) (ht : t < n)
    (K0 : ∀ re cf qu par rk, bf_E n s (xs_g caps fl) re cf par rk → bt re t = false → post 0 (nI n, re, fb, caps, fl, cf, qu, ho, hb))
    (K1 : ∀ re cf qu par rk, bf_E n s (xs_g caps fl) re cf par rk → bt re t = true → post 1 (nI n, re, fb, caps, fl, cf, qu, ho, hb)) :
    wpX_search post (nI n, re, fb, caps, fl, cf, qu, ho, hb) (nI s) (nI t) := by
  have e1 : upd qu 0 (vp_nar .byte (nI s).toInt8.toInt32) = upd qu 0 (nI s) := by rw [bz_b (by omega)]
  refine nm_r e1 (nm_e ⟨n + 1, ?_⟩)
  have hb' : ∀ i, bt ((1 : Int32) <<< (nI s &&& 31)) i = decide (i = s) := fun i => bz_s (by omega) i
  refine xs_20 hn ht K0 K1 n 0 1 ((1 : Int32) <<< (nI s &&& 31)) cf (upd qu 0 (nI s)) (fun _ => 0) (fun _ => s) (fun _ => 0) (by omega) ⟨?_, cn_one hs hb', ?_, ?_, ?_⟩ (by omega) (fun i hi => absurd hi (by omega))
  · rw [hb']; simp
  · intro i hi
    have : i = 0 := by omega
    subst this
    exact ⟨pk_us, hs, by rw [hb']; simp, rfl⟩
  · intro v hv
    rw [hb'] at hv
    have : v = s := by simpa using hv
    subst this
    exact ⟨hs, Nat.zero_lt_one, rfl⟩
  · intro v hv hvs
    rw [hb'] at hv
    exact absurd (by simpa using hv) hvs
end
section
/-! the component: roomOnWay, push, largestFlow -/
theorem xf_r {n : Nat} {c f : Nat → Nat → Int} {s t : Nat} {T : Int} (hC : dw_C n c) (h : ∀ u v, u < n → v < n → f u v = - f v u ∧ f u v ≤ c u v) {u v : Nat} (hu : u < n) (hv : v < n) : -50 ≤ f u v ∧ f u v ≤ 50 ∧ 0 ≤ c u v ∧ c u v ≤ 50 := by
  have h1 := h u v hu hv
  have h2 := h v u hv hu
  have h3 := hC.2 u v hu hv
  have h4 := hC.2 v u hv hu
  omega
theorem xr_7 {post : Int32 → Prop} {re fb : Int32} {n s t k : Nat} {T : Int} {y rk : Nat → Nat} {caps fl cf qu ho hb : Nat → Int32} (hC : dw_C n (tb_f caps)) (F : mf_F n (tb_f caps) s t (tb_f fl) T) (W : mf_W n s (xs_g caps fl) cf rk t k y)
    (K : ∀ m : Int, 1 ≤ m → m ≤ 1000 → (∀ j, j < k → tb_f fl (y (j + 1)) (y j) + m ≤ tb_f caps (y (j + 1)) (y j)) → post (iz_I m)) :
    ∀ d i m, i + d = k → 1 ≤ m → m ≤ 1000 → (∀ j, j < i → tb_f fl (y (j + 1)) (y j) + m ≤ tb_f caps (y (j + 1)) (y j)) → wX_roomOnWay_7 post (nI s) (nI n) re fb caps fl cf qu ho hb (d + 1) (iz_I m) (nI (y i)) := by
  have hn := hC.1
  obtain ⟨w0, w1, w2, w3⟩ := W
  intro d
  induction d with
  | zero =>
    intro i m hi h1 h2 h3
    have : i = k := by omega
    subst this
    exact br_t (by rw [w1]) (K m h1 h2 h3)
  | succ d ih =>
    intro i m hi h1 h2 h3
    obtain ⟨a1, a2, a3, a4⟩ := w3 i (by omega)
    have b1 := w2 i (by omega)
    have b2 := w2 (i + 1) (by omega)
    have b3 := w2 k (by omega)
    rw [w1] at b3
    have r := xf_r (s := s) (t := t) (T := T) hC F.1 b2 b1
    have g : tb_f fl (y (i + 1)) (y i) < tb_f caps (y (i + 1)) (y i) := a4
    refine br_f (fun z => a1 ((nI_eq (by omega) (by omega)).mp z)) ⟨vp_in_nI (by omega) (by decide), nm_r (e' := nI (y (i + 1))) (by rw [nI_clamp (by omega), a2]) ⟨ix_v (by omega) (by omega), ix_v (by omega) (by omega), nm_r (e' := iz_I (tb_f caps (y (i + 1)) (y i) - tb_f fl (y (i + 1)) (y i))) (by rw [ix_c (by omega) (by omega), tb_e caps, tb_e fl, iz_sub]) ?_⟩⟩
    refine br_c (fun h => ?_) (fun h => ?_)
    · rw [iz_le (by omega) (by omega)] at h
      refine ih (i + 1) m (by omega) h1 h2 (fun j hj => ?_)
      by_cases z : j = i
      · rw [z]; omega
      · exact h3 j (by omega)
    · rw [iz_le (by omega) (by omega)] at h
      refine ih (i + 1) _ (by omega) (by omega) (by omega) (fun j hj => ?_)
      by_cases z : j = i
      · rw [z]; omega
      · have := h3 j (by omega)
        omega
theorem mf_Icg {n : Nat} {c f0 f f' : Nat → Nat → Int} {rk : Nat → Nat} {t z : Nat} {m : Int} (h : ∀ u v, u < n → v < n → f' u v = f u v) (I : mf_I n c f0 rk t m z f) : mf_I n c f0 rk t m z f' := by
  obtain ⟨i1, i2, i3⟩ := I
  refine ⟨fun u v hu hv => ?_, fun u hu => ?_, fun u v hu hv h1 h2 => ?_⟩
  · rw [h u v hu hv, h v u hv hu]; exact i1 u v hu hv
  · rw [zs_cg (fun v hv => h u v hu hv)]; exact i2 u hu
  · rw [h u v hu hv]; exact i3 u v hu hv h1 h2
theorem xp_t {fl : Nat → Int32} {a b : Nat} {m : Int} (ha : a < 8) (hb : b < 8) (hab : a ≠ b) (r1 : -1000 ≤ tb_f fl a b ∧ tb_f fl a b ≤ 1000) (r2 : -1000 ≤ tb_f fl b a ∧ tb_f fl b a ≤ 1000) (hm : 0 ≤ m ∧ m ≤ 1000) {u v : Nat} (hu : u < 8) (hv : v < 8) :
    tb_f (upd (upd fl (8 * a + b) (fl (8 * a + b) + iz_I m)) (8 * b + a) (upd fl (8 * a + b) (fl (8 * a + b) + iz_I m) (8 * b + a) - iz_I m)) u v = mf_p (tb_f fl) a b m u v := by
  unfold mf_p
  show (upd _ _ _ (8 * u + v)).toInt = _
  by_cases e2 : u = b ∧ v = a
  · obtain ⟨rfl, rfl⟩ := e2
    have e1 : ¬ (u = v ∧ v = u) := fun z => hab z.2
    rw [if_neg e1, if_pos ⟨rfl, rfl⟩, pk_us, pk_un (by omega), tb_e fl, iz_sub, iz_i (by omega)]
    omega
  · rw [pk_un (by omega), if_neg e2]
    by_cases e1 : u = a ∧ v = b
    · obtain ⟨rfl, rfl⟩ := e1
      rw [if_pos ⟨rfl, rfl⟩, pk_us, tb_e fl, iz_add, iz_i (by omega)]
      omega
    · rw [pk_un (by omega), if_neg e1]
      show tb_f fl u v = _
      omega
theorem xp_3 {post : SX → Prop} {re fb : Int32} {n s t k : Nat} {T m : Int} {y rk : Nat → Nat} {caps fl0 cf qu ho hb : Nat → Int32} (hC : dw_C n (tb_f caps)) (F : mf_F n (tb_f caps) s t (tb_f fl0) T) (W : mf_W n s (xs_g caps fl0) cf rk t k y) (h1 : 1 ≤ m) (h2 : m ≤ 1000) (hm : ∀ j, j < k → tb_f fl0 (y (j + 1)) (y j) + m ≤ tb_f caps (y (j + 1)) (y j))
    (K : ∀ fl, mf_I n (tb_f caps) (tb_f fl0) rk t m s (tb_f fl) → post (nI n, re, fb, caps, fl, cf, qu, ho, hb)) :
    ∀ d i fl, i + d = k → mf_I n (tb_f caps) (tb_f fl0) rk t m (y i) (tb_f fl) → wX_push_3 post (nI s) (iz_I m) (nI n) re fb (d + 1) (nI (y i)) caps fl cf qu ho hb := by
  have hn := hC.1
  obtain ⟨w0, w1, w2, w3⟩ := W
  intro d
  induction d with
  | zero =>
    intro i fl hi I
    have : i = k := by omega
    subst this
    rw [w1] at I
    exact br_t (by rw [w1]) (K fl I)
  | succ d ih =>
    intro i fl hi I
    obtain ⟨a1, a2, a3, a4⟩ := w3 i (by omega)
    have b1 := w2 i (by omega)
    have b2 := w2 (i + 1) (by omega)
    have b3 := w2 k (by omega)
    rw [w1] at b3
    have hne : y (i + 1) ≠ y i := fun z => by rw [z] at a3; omega
    have r1 := xf_r (s := s) (t := t) (T := T) hC I.1 b2 b1
    have r2 := xf_r (s := s) (t := t) (T := T) hC I.1 b1 b2
    have J := mf_Is (by omega) b2 b1 (hm i (by omega)) a3 I
    refine br_f (fun z => a1 ((nI_eq (by omega) (by omega)).mp z)) ⟨vp_in_nI (by omega) (by decide), nm_r (e' := nI (y (i + 1))) (by rw [nI_clamp (by omega), a2]) ⟨ix_v (by omega) (by omega), ix_v (by omega) (by omega), nm_r (e' := upd fl (8 * y (i + 1) + y i) (fl (8 * y (i + 1) + y i) + iz_I m)) (by rw [ix_c (by omega) (by omega)]) ⟨ix_v (by omega) (by omega), ix_v (by omega) (by omega), nm_r (e' := upd (upd fl (8 * y (i + 1) + y i) (fl (8 * y (i + 1) + y i) + iz_I m)) (8 * y i + y (i + 1)) (upd fl (8 * y (i + 1) + y i) (fl (8 * y (i + 1) + y i) + iz_I m) (8 * y i + y (i + 1)) - iz_I m)) (by rw [ix_c (by omega) (by omega)]) ?_⟩⟩⟩
    exact ih (i + 1) _ (by omega) (mf_Icg (fun u v hu hv => xp_t (by omega) (by omega) hne (by omega) (by omega) (by omega) (by omega) (by omega)) J)
/-- what a largest flow leaves: the least of the smallest cuts -/
def xl_R (n : Nat) (c : Nat → Nat → Int) (s t : Nat) (re : Int32) : Prop := bt re s = true ∧ bt re t = false ∧ (∀ v, bt re v = true → v < n) ∧ dw_D n c (bt re) = lm_L n c s t ∧ ∀ S : Nat → Bool, S s = true → S t = false → dw_D n c S = lm_L n c s t → ∀ v, bt re v = true → S v = true
theorem xl_23 {post : Int32 → SX → Prop} {fb : Int32} {n s t : Nat} {caps ho hb : Nat → Int32} (hC : dw_C n (tb_f caps)) (hs : s < n) (ht : t < n) (hst : s ≠ t)
    (K : ∀ re fl cf qu, xl_R n (tb_f caps) s t re → post (iz_I (lm_L n (tb_f caps) s t)) (nI n, re, fb, caps, fl, cf, qu, ho, hb)) :
    ∀ (d : Nat) (T : Int) (re : Int32) (fl cf qu : Nat → Int32), 0 ≤ T → 401 - T ≤ (d : Int) → mf_F n (tb_f caps) s t (tb_f fl) T → wX_largestFlow_23 post (nI s) (nI t) d (iz_I T) (nI n) re fb caps fl cf qu ho hb := by
  have hn := hC.1
  intro d
  induction d with
  | zero =>
    intro T re fl cf qu h0 h1 F
    have := mf_bd hC F hs hst
    omega
  | succ d ih =>
    intro T re fl cf qu h0 h1 F
    rw [wX_largestFlow_23]
    refine xs_s hn hs ht (fun re cf qu par rk E z => ?_) (fun re cf qu par rk E z => ?_)
    · have e := mf_end hC F hs (R := bt re) E.1 z (fun u v hu hv ru rv => by
        have h := E.2.2.2 u v ru hv rv
        have h' : ¬ tb_f fl u v < tb_f caps u v := h
        omega)
      have k := K re fl cf qu ⟨E.1, z, E.2.1, e.1.trans e.2.symm, fun S a b c v hv => mf_sub F hs E a b (c.trans e.2) (rk v) v (Nat.le_refl _) hv⟩
      rw [e.2] at k
      exact br_t rfl k
    · obtain ⟨k, W, hk⟩ := mf_way E (rk t) t (Nat.le_refl _) z
      refine br_f (by decide) ?_
      have hy : mf_y par t 0 = t := rfl
      refine Exists.intro (k + 1) ?_
      refine xr_7 hC F W (fun m m1 m2 m3 => ?_) k 0 1000 (by omega) (by omega) (by omega) (fun j hj => absurd hj (by omega))
      refine Exists.intro (k + 1) (xp_3 hC F W m1 m2 m3 (fun fl' I => ?_) k 0 fl (by omega) (mf_I0 F))
      exact nm_r (iz_add T m) (ih (T + m) re fl' cf qu (by omega) (by omega) (mf_Ie hs hst F I))
theorem xl_2 {post : Int32 → SX → Prop} {x1 x2 fn re fb : Int32} {caps cf qu ho hb : Nat → Int32}
    (K : ∀ fl : Nat → Int32, (∀ i, i < 64 → fl i = 0) → ∃ n, wX_largestFlow_23 post x1 x2 n 0 fn re fb caps fl cf qu ho hb) :
    ∀ d k fl, k + d = 64 → (∀ i, i < k → fl i = 0) → wX_largestFlow_2 post x1 x2 fn re fb (d + 1) (nI k) caps fl cf qu ho hb := by
  intro d
  induction d with
  | zero =>
    intro k fl hk h
    have : k = 64 := by omega
    subst this
    exact br_t (Int32.le_refl _) (K fl h)
  | succ d ih =>
    intro k fl hk h
    refine br_f (nI_ge (b := 64) (by omega) (by decide)) ⟨vp_in_nI (by omega) (by decide), nm_r (e' := upd fl k 0) (by rw [nI_clamp (by omega)]) (nm_r (nI_1 k) (ih (k + 1) _ (by omega) (fun i hi => ?_)))⟩
    by_cases z : i = k
    · rw [z, pk_us]
    · rw [pk_un z]; exact h i (by omega)
theorem xl_l {post : Int32 → SX → Prop} {re fb : Int32} {n s t : Nat} {caps fl cf qu ho hb : Nat → Int32} (hC : dw_C n (tb_f caps)) (hs : s < n) (ht : t < n) (hst : s ≠ t)
    (K : ∀ re fl cf qu, xl_R n (tb_f caps) s t re → post (iz_I (lm_L n (tb_f caps) s t)) (nI n, re, fb, caps, fl, cf, qu, ho, hb)) :
    wpX_largestFlow post (nI n, re, fb, caps, fl, cf, qu, ho, hb) (nI s) (nI t) := by
  have hn := hC.1
  refine Exists.intro (64 + 1) (xl_2 (fun fl h => ⟨401, ?_⟩) 64 0 fl (by omega) (fun i hi => absurd hi (by omega)))
  refine xl_23 hC hs ht hst K 401 0 re fl cf qu (by omega) (by omega) (mf_F0 hC hs (fun u v hu hv => ?_))
  unfold tb_f
  rw [h _ (by omega)]
  rfl
end
section
/-! the component: build, depthOf, weakest -/
theorem xb_72 {post : SX → Prop} {J : Int32 → Int32 → Int32 → Int32 → (Nat → Int32) → (Nat → Int32) → (Nat → Int32) → (Nat → Int32) → (Nat → Int32) → (Nat → Int32) → Prop} {re fb : Int32} {n x : Nat} {caps fl cf qu hb : Nat → Int32} {p : Nat → Nat} (hn : n ≤ 8) (hx : x < n) (hp : ∀ i, i < n → p i < 8)
    (K : ∀ ho : Nat → Int32, (∀ i, i < n → ho i = nI (if x < i ∧ bt re i = true ∧ p i = p x then x else p i)) → J (nI (x + 1)) (nI n) re fb caps fl cf qu ho hb) :
    ∀ d v ho, v + d = n → x < v → (∀ i, i < n → ho i = nI (if x < i ∧ i < v ∧ bt re i = true ∧ p i = p x then x else p i)) → wX_build_72 post J (nI x) (nI n) re fb (d + 1) (nI v) caps fl cf qu ho hb := by
  intro d
  induction d with
  | zero =>
    intro v ho hv hxv I
    have : v = n := by omega
    subst this
    refine br_t (Int32.le_refl _) (nm_r (nI_1 x) (K ho (fun i hi => ?_)))
    rw [I i hi]
    have : (x < i ∧ i < v ∧ bt re i = true ∧ p i = p x) ↔ (x < i ∧ bt re i = true ∧ p i = p x) := ⟨fun z => ⟨z.1, z.2.2⟩, fun z => ⟨z.1, hi, z.2⟩⟩
    simp only [this]
  | succ d ih =>
    intro v ho hv hxv I
    have hnv : ¬ nI n ≤ nI v := nI_ge (by omega) (by omega)
    have hother : ∀ i, i ≠ v → ((x < i ∧ i < v + 1 ∧ bt re i = true ∧ p i = p x) ↔ (x < i ∧ i < v ∧ bt re i = true ∧ p i = p x)) := by
      intro i hi
      exact ⟨fun z => ⟨z.1, by omega, z.2.2⟩, fun z => ⟨z.1, by omega, z.2.2⟩⟩
    have e1 : ho v = nI (p v) := by rw [I v (by omega), if_neg (by omega)]
    have e2 : ho x = nI (p x) := by rw [I x (by omega), if_neg (by omega)]
    have p1 := hp v (by omega)
    have p2 := hp x (by omega)
    refine br_f hnv ?_
    cases hb' : bt re v
    · refine br_t ((bz_0 re (by omega)).mpr hb') (nm_r (nI_1 v) (ih (v + 1) ho (by omega) (by omega) (fun i hi => ?_)))
      by_cases z : i = v
      · rw [z, e1, if_neg (fun y => by rw [y.2.2.1] at hb'; cases hb')]
      · rw [I i hi]
        simp only [hother i z]
    · refine br_f (fun z => by rw [(bz_0 re (by omega)).mp z] at hb'; cases hb') ⟨vp_in_nI (by omega) (by decide), vp_in_nI (by omega) (by decide), ?_⟩
      have ev : ho (nI v).toNatClampNeg = nI (p v) := by rw [nI_clamp (by omega), e1]
      have ex : ho (nI x).toNatClampNeg = nI (p x) := by rw [nI_clamp (by omega), e2]
      by_cases y : p v = p x
      · refine br_t (by rw [ev, ex, y]) ⟨vp_in_nI (by omega) (by decide), nm_r (e' := upd ho v (nI x)) (by rw [nI_clamp (by omega), bz_b (by omega)]) (nm_r (nI_1 v) (ih (v + 1) _ (by omega) (by omega) (fun i hi => ?_)))⟩
        by_cases z : i = v
        · rw [z, pk_us, if_pos ⟨hxv, by omega, hb', y⟩]
        · rw [pk_un z, I i hi]
          simp only [hother i z]
      · refine br_f (fun z => y ?_) (nm_r (nI_1 v) (ih (v + 1) ho (by omega) (by omega) (fun i hi => ?_)))
        · rw [ev, ex] at z
          exact (nI_eq (by omega) (by omega)).mp z
        · by_cases z : i = v
          · rw [z, e1, if_neg (fun q => y q.2.2.2)]
          · rw [I i hi]
            simp only [hother i z]
/-- the arrays hold the tree -/
def xt_T (n : Nat) (caps ho hb : Nat → Int32) (p : Nat → Nat) (w : Nat → Int) : Prop := (∀ i, i < n → ho i = nI (p i)) ∧ (∀ i, i < n → hb i = iz_I (w i)) ∧ gt_T n (tb_f caps) p w n
theorem xb_43 {post : SX → Prop} {fb : Int32} {n : Nat} {caps : Nat → Int32} (hC : dw_C n (tb_f caps))
    (K : ∀ re fl cf qu ho hb p w, xt_T n caps ho hb p w → post (nI n, re, fb, caps, fl, cf, qu, ho, hb)) :
    ∀ d x re fl cf qu ho hb p w, x + d = n → 1 ≤ x → (∀ i, i < n → ho i = nI (p i)) → (∀ i, i < n → hb i = iz_I (w i)) → (∀ i, i < n → p i < 8) → gt_T n (tb_f caps) p w x → gt_P n p x → gt_A n (tb_f caps) p x → wX_build_43 post (d + 1) (nI x) (nI n) re fb caps fl cf qu ho hb := by
  have hn := hC.1
  intro d
  induction d with
  | zero =>
    intro x re fl cf qu ho hb p w hx h1 h2 h3 h4 T P A
    have : x = n := by omega
    subst this
    exact br_t (Int32.le_refl _) (K re fl cf qu ho hb p w ⟨h2, h3, T⟩)
  | succ d ih =>
    intro x re fl cf qu ho hb p w hx h1 h2 h3 h4 T P A
    have hnv : ¬ nI n ≤ nI x := nI_ge (by omega) (by omega)
    have hpx : p x < x := P x (by omega) (by omega)
    have e : ho (nI x).toNatClampNeg = nI (p x) := by rw [nI_clamp (by omega), h2 x (by omega)]
    refine br_f hnv ⟨vp_in_nI (by omega) (by decide), ?_⟩
    rw [e]
    refine xl_l hC (by omega) (by omega) (by omega) (fun re fl cf qu R => ?_)
    obtain ⟨r1, r2, r3, r4, r5⟩ := R
    have G := gt_step (X := bt re) (p' := fun i => if x < i ∧ bt re i = true ∧ p i = p x then x else p i) (w' := fun i => if i = x then lm_L n (tb_f caps) x (p x) else w i) hC (by omega) T P A r1 r2 r4 (fun v _ => rfl) (fun v _ => rfl)
    refine ⟨vp_in_nI (by omega) (by decide), nm_r (e' := upd hb x (iz_I (lm_L n (tb_f caps) x (p x)))) (by rw [nI_clamp (by omega)]) (nm_r (nI_1 x) ⟨d + 1, ?_⟩)⟩
    refine xb_72 (p := p) hn (by omega) h4 (fun ho' h5 => ?_) d (x + 1) ho (by omega) (by omega) (fun i hi => ?_)
    · refine ih (x + 1) re fl cf qu ho' _ _ _ (by omega) (by omega) h5 (fun i hi => ?_) (fun i hi => ?_) G.1 G.2.1 G.2.2
      · by_cases z : i = x
        · rw [z, pk_us, if_pos rfl]
        · rw [pk_un z, if_neg z, h3 i hi]
      · have := h4 i hi
        try dsimp only
        split <;> omega
    · rw [h2 i hi, if_neg (by omega)]
theorem xb_15 {post : SX → Prop} {fn re fb : Int32} {caps fl cf qu : Nat → Int32}
    (K : ∀ ho hb : Nat → Int32, (∀ i, i < 8 → ho i = 0 ∧ hb i = 0) → ∃ m, wX_build_43 post m 1 fn re fb caps fl cf qu ho hb) :
    ∀ d k ho hb, k + d = 8 → (∀ i, i < k → ho i = 0 ∧ hb i = 0) → wX_build_15 post fn re fb (d + 1) (nI k) caps fl cf qu ho hb := by
  intro d
  induction d with
  | zero =>
    intro k ho hb hk h
    have : k = 8 := by omega
    subst this
    exact br_t (Int32.le_refl _) (K ho hb h)
  | succ d ih =>
    intro k ho hb hk h
    refine br_f (nI_ge (b := 8) (by omega) (by decide)) ⟨vp_in_nI (by omega) (by decide), nm_r (e' := upd ho k 0) (by rw [nI_clamp (by omega), bz_b0]) ⟨vp_in_nI (by omega) (by decide), nm_r (e' := upd hb k 0) (by rw [nI_clamp (by omega)]) (nm_r (nI_1 k) (ih (k + 1) _ _ (by omega) (fun i hi => ?_)))⟩⟩
    by_cases z : i = k
    · rw [z, pk_us, pk_us]; exact ⟨rfl, rfl⟩
    · rw [pk_un z, pk_un z]; exact h i (by omega)
theorem xb_b {post : SX → Prop} {re fb : Int32} {n : Nat} {caps fl cf qu ho hb : Nat → Int32} (hC : dw_C n (tb_f caps)) (h2 : 2 ≤ n) (hf : fb = 0 ∨ (fb = 1 ∧ ∃ p w, xt_T n caps ho hb p w))
    (K : ∀ re fl cf qu ho hb p w, xt_T n caps ho hb p w → post (nI n, re, 1, caps, fl, cf, qu, ho, hb)) :
    wpX_build post (nI n, re, fb, caps, fl, cf, qu, ho, hb) := by
  have hn := hC.1
  rcases hf with z | ⟨z, p, w, T⟩
  · subst z
    refine br_t rfl ⟨8 + 1, xb_15 (fun ho hb h => ⟨(n - 1) + 1, ?_⟩) 8 0 ho hb (by omega) (fun i hi => absurd hi (by omega))⟩
    obtain ⟨g1, g2, g3⟩ := gt_0 (n := n) (c := tb_f caps) (p := fun _ => 0) (w := fun _ => 0) (fun v _ => rfl)
    exact xb_43 hC K (n - 1) 1 re fl cf qu ho hb (fun _ => 0) (fun _ => 0) (by omega) (by omega) (fun i hi => (h i (by omega)).1) (fun i hi => (h i (by omega)).2) (fun i _ => by decide) g1 g2 g3
  · subst z
    exact br_f (by decide) (K re fl cf qu ho hb p w T)
/-! depthOf, weakest -/
theorem xd_4 {post : Int32 → Prop} {re fb : Int32} {n : Nat} {caps fl cf qu ho hb : Nat → Int32} {p : Nat → Nat} {w : Nat → Int} (hn : n ≤ 8) (T : xt_T n caps ho hb p w) :
    ∀ d x k, x < n → x ≤ d → post (nI (k + gt_dp p x)) → wX_depthOf_4 post (nI n) re fb caps fl cf qu ho hb (d + 1) (nI k) (nI x) := by
  intro d
  induction d with
  | zero =>
    intro x k hx hd K
    have : x = 0 := by omega
    subst this
    exact br_t rfl K
  | succ d ih =>
    intro x k hx hd K
    by_cases z : x = 0
    · subst z
      exact br_t rfl K
    · have h1 := (T.2.2 x (by omega) hx).1
      refine br_f (nI_ne0 (by omega) (by omega)) ⟨vp_in_nI (by omega) (by decide), nm_r (e' := nI (p x)) (by rw [nI_clamp (by omega), T.1 x hx]) (nm_r (nI_1 k) (ih (p x) (k + 1) (by omega) (by omega) ?_))⟩
      rw [gt_dps T.2.2 z hx] at K
      rw [show k + 1 + gt_dp p (p x) = k + (gt_dp p (p x) + 1) by omega]
      exact K
theorem xd_d {post : Int32 → Prop} {re fb : Int32} {n x : Nat} {caps fl cf qu ho hb : Nat → Int32} {p : Nat → Nat} {w : Nat → Int} (hn : n ≤ 8) (T : xt_T n caps ho hb p w) (hx : x < n) (K : post (nI (gt_dp p x))) :
    wpX_depthOf post (nI n, re, fb, caps, fl, cf, qu, ho, hb) (nI x) := by
  refine Exists.intro (x + 1) (xd_4 hn T x x 0 hx (Nat.le_refl _) ?_)
  rw [Nat.zero_add]
  exact K
theorem xt_r {n : Nat} {caps ho hb : Nat → Int32} {p : Nat → Nat} {w : Nat → Int} (hC : dw_C n (tb_f caps)) (T : xt_T n caps ho hb p w) {x : Nat} (h1 : 1 ≤ x) (hx : x < n) : 0 ≤ w x ∧ w x ≤ 400 := by
  obtain ⟨t1, t2, _⟩ := T.2.2 x h1 hx
  rw [t2]
  exact ⟨lm_nn hC _ _, lm_bd hC (by omega)⟩
theorem xk_25 {post : Int32 → Prop} {re fb : Int32} {n : Nat} {caps fl cf qu ho hb : Nat → Int32} {p : Nat → Nat} {w : Nat → Int} (hC : dw_C n (tb_f caps)) (T : xt_T n caps ho hb p w) :
    ∀ d x y m, x < n → y < n → x + y ≤ d → 0 ≤ m → m ≤ 1000 → post (iz_I (min m (lm_L n (tb_f caps) x y))) → wX_weakest_25 post (nI n) re fb caps fl cf qu ho hb (d + 1) (nI x) (nI y) (nI (gt_dp p x)) (nI (gt_dp p y)) (iz_I m) := by
  have hn := hC.1
  have same : ∀ d x m, m ≤ 1000 → post (iz_I (min m (lm_L n (tb_f caps) x x))) → wX_weakest_25 post (nI n) re fb caps fl cf qu ho hb (d + 1) (nI x) (nI x) (nI (gt_dp p x)) (nI (gt_dp p x)) (iz_I m) := by
    intro d x m h1 K
    rw [lm_self, show min m 1000 = m by omega] at K
    exact br_t rfl K
  intro d
  induction d with
  | zero =>
    intro x y m hx hy hd h0 h1 K
    have e1 : x = 0 := by omega
    have e2 : y = 0 := by omega
    subst e1 e2
    exact same 0 0 m h1 K
  | succ d ih =>
    intro x y m hx hy hd h0 h1 K
    by_cases e : x = y
    · subst e
      exact same (d + 1) x m h1 K
    · have d1 := gt_dple T.2.2 x hx
      have d2 := gt_dple T.2.2 y hy
      refine br_f (fun z => e ((nI_eq (by omega) (by omega)).mp z)) ?_
      rcases Nat.lt_or_ge (gt_dp p x) (gt_dp p y) with z | z
      · have y0 : y ≠ 0 := gt_ne0 T.2.2 hx e (by omega)
        have up := gt_up hC T.2.2 hy y0 x hx e (by omega)
        rw [lm_sy hC x y, up] at K
        have hpy := (T.2.2 y (by omega) hy).1
        have r := xt_r hC T (x := y) (by omega) hy
        have eb : hb (nI y).toNatClampNeg = iz_I (w y) := by rw [nI_clamp (by omega), T.2.1 y hy]
        have eo : ho (nI y).toNatClampNeg = nI (p y) := by rw [nI_clamp (by omega), T.1 y hy]
        have ed : nI (gt_dp p y) + (-1) = nI (gt_dp p (p y)) := by rw [gt_dps T.2.2 y0 hy, pk_m1]
        have hi : vp_in (nI y) 8 := vp_in_nI (by omega) (by decide)
        refine br_t (nI_lt z (by omega)) ⟨hi, br_c (fun h => ⟨hi, nm_r eo (nm_r ed (ih x (p y) m hx (by omega) (by omega) h0 h1 ?_))⟩) (fun h => ⟨hi, nm_r eb ⟨hi, nm_r eo (nm_r ed (ih x (p y) (w y) hx (by omega) (by omega) (by omega) (by omega) ?_))⟩⟩)⟩
        · rw [eb, iz_le (by omega) (by omega)] at h
          rw [lm_sy hC x (p y)]
          rw [show min m (min (w y) (lm_L n (tb_f caps) (p y) x)) = min m (lm_L n (tb_f caps) (p y) x) by omega] at K
          exact K
        · rw [eb, iz_le (by omega) (by omega)] at h
          rw [lm_sy hC x (p y)]
          rw [show min m (min (w y) (lm_L n (tb_f caps) (p y) x)) = min (w y) (lm_L n (tb_f caps) (p y) x) by omega] at K
          exact K
      · have x0 : x ≠ 0 := gt_ne0 T.2.2 hy (fun q => e q.symm) z
        have up := gt_up hC T.2.2 hx x0 y hy (fun q => e q.symm) z
        rw [up] at K
        have hpx := (T.2.2 x (by omega) hx).1
        have r := xt_r hC T (x := x) (by omega) hx
        have eb : hb (nI x).toNatClampNeg = iz_I (w x) := by rw [nI_clamp (by omega), T.2.1 x hx]
        have eo : ho (nI x).toNatClampNeg = nI (p x) := by rw [nI_clamp (by omega), T.1 x hx]
        have ed : nI (gt_dp p x) + (-1) = nI (gt_dp p (p x)) := by rw [gt_dps T.2.2 x0 hx, pk_m1]
        have hi : vp_in (nI x) 8 := vp_in_nI (by omega) (by decide)
        refine br_f (nI_nlt z (by omega)) ⟨hi, br_c (fun h => ⟨hi, nm_r eo (nm_r ed (ih (p x) y m (by omega) hy (by omega) h0 h1 ?_))⟩) (fun h => ⟨hi, nm_r eb ⟨hi, nm_r eo (nm_r ed (ih (p x) y (w x) (by omega) hy (by omega) (by omega) (by omega) ?_))⟩⟩)⟩
        · rw [eb, iz_le (by omega) (by omega)] at h
          rw [show min m (min (w x) (lm_L n (tb_f caps) (p x) y)) = min m (lm_L n (tb_f caps) (p x) y) by omega] at K
          exact K
        · rw [eb, iz_le (by omega) (by omega)] at h
          rw [show min m (min (w x) (lm_L n (tb_f caps) (p x) y)) = min (w x) (lm_L n (tb_f caps) (p x) y) by omega] at K
          exact K
theorem xk_w {post : Int32 → Prop} {re fb : Int32} {n u v : Nat} {caps fl cf qu ho hb : Nat → Int32} {p : Nat → Nat} {w : Nat → Int} (hC : dw_C n (tb_f caps)) (T : xt_T n caps ho hb p w) (hu : u < n) (hv : v < n) (K : post (iz_I (lm_L n (tb_f caps) u v))) :
    wpX_weakest post (nI n, re, fb, caps, fl, cf, qu, ho, hb) (nI u) (nI v) := by
  unfold wpX_weakest
  dsimp only
  refine xd_d hC.1 T hu (xd_d hC.1 T hv ⟨u + v + 1, ?_⟩)
  refine xk_25 hC T (u + v) u v 1000 hu hv (Nat.le_refl _) (by omega) (by omega) ?_
  have := lm_bd' hC u v
  rw [show min 1000 (lm_L n (tb_f caps) u v) = lm_L n (tb_f caps) u v by omega]
  exact K
end
section
/-! weight, smallest, couples, total -/
theorem xv_33 {post : Int32 → Prop} {J : Int32 → Int32 → Prop} {x re fb : Int32} {n : Nat} {a fl cf qu ho hb : Nat → Int32} {u : Nat} (hn : n ≤ 8) (hu : u < n) (b : Int) (K : J (iz_I (b + zs_S (yw_t a x u) n)) (nI (u + 1))) : ∀ d v, v + d = n → wX_weight_33 post J x (nI u) (nI n) re fb a fl cf qu ho hb (d + 1) (iz_I (b + zs_S (yw_t a x u) v)) (nI v) := by
  intro d
  induction d with
  | zero =>
    intro v hv
    have : v = n := by omega
    subst this
    exact br_t (Int32.le_refl _) (nm_r (nI_1 u) K)
  | succ d ih =>
    intro v hv
    have hnv : ¬ nI n ≤ nI v := nI_ge (by omega) (by omega)
    have step := ih (v + 1) (by omega)
    rw [zs_s] at step
    refine br_f hnv ?_
    cases hb' : bt x u
    · rw [yw_t0 v hb', Int.add_zero] at step
      exact br_t ((bz_0 x (by omega)).mpr hb') (nm_r (nI_1 v) step)
    · refine br_f (fun z => by rw [(bz_0 x (by omega)).mp z] at hb'; cases hb') ?_
      cases hc : bt x v
      · rw [yw_t2 hb' hc, ← Int.add_assoc, ← iz_add, ← tb_e, ← ix_c (u := u) (v := v) (by omega) (by omega)] at step
        exact br_t ((bz_0 x (by omega)).mpr hc) ⟨ix_v (by omega) (by omega), nm_e (nm_r (nI_1 v) step)⟩
      · rw [yw_t1 u hc, Int.add_zero] at step
        exact br_f (fun z => by rw [(bz_0 x (by omega)).mp z] at hc; cases hc) (nm_r (nI_1 v) step)
theorem xv_22 {post : Int32 → Prop} {x re fb : Int32} {n : Nat} {a fl cf qu ho hb : Nat → Int32} (hn : n ≤ 8) (K : post (iz_I (dw_D n (tb_f a) (bt x)))) : ∀ d u, u + d = n → wX_weight_22 post x (nI n) re fb a fl cf qu ho hb (d + 1) (iz_I (zs_S (fun u => zs_S (yw_t a x u) n) u)) (nI u) := by
  intro d
  induction d with
  | zero =>
    intro u hu
    have : u = n := by omega
    subst this
    exact br_t (Int32.le_refl _) K
  | succ d ih =>
    intro u hu
    have hnv : ¬ nI n ≤ nI u := nI_ge (by omega) (by omega)
    have h := xv_33 (post := post) (J := wX_weight_22 post x (nI n) re fb a fl cf qu ho hb (d + 1)) (x := x) (re := re) (fb := fb) (a := a) (fl := fl) (cf := cf) (qu := qu) (ho := ho) (hb := hb) hn (u := u) (by omega) (zs_S (fun u => zs_S (yw_t a x u) n) u) (ih (u + 1) (by omega)) n 0 (by omega)
    rw [zs_0, Int.add_zero] at h
    exact br_f hnv ⟨n + 1, h⟩
/-! smallest -/
theorem xm_13 {post : Int32 → SX → Prop} {re fb : Int32} {n : Nat} {caps fl cf qu ho hb : Nat → Int32} {p : Nat → Nat} {w : Nat → Int} (hC : dw_C n (tb_f caps)) (T : xt_T n caps ho hb p w)
    (K : ∀ m, (∃ i, 1 ≤ i ∧ i < n ∧ w i = m) → (∀ i, 1 ≤ i → i < n → m ≤ w i) → post (iz_I m) (nI n, re, fb, caps, fl, cf, qu, ho, hb)) :
    ∀ d y m, y + d = n → 1 ≤ y → (∃ i, 1 ≤ i ∧ i < y ∧ w i = m) → (∀ i, 1 ≤ i → i < y → m ≤ w i) → wX_smallest_13 post (nI n) re fb caps fl cf qu ho hb (d + 1) (iz_I m) (nI y) := by
  have hn := hC.1
  intro d
  induction d with
  | zero =>
    intro y m hy h1 h2 h3
    have : y = n := by omega
    subst this
    exact br_t (Int32.le_refl _) (K m h2 h3)
  | succ d ih =>
    intro y m hy h1 h2 h3
    have hnv : ¬ nI n ≤ nI y := nI_ge (by omega) (by omega)
    have eb : hb (nI y).toNatClampNeg = iz_I (w y) := by rw [nI_clamp (by omega), T.2.1 y (by omega)]
    have r := xt_r hC T (x := y) (by omega) (by omega)
    obtain ⟨i, i1, i2, i3⟩ := h2
    have r' := xt_r hC T (x := i) (by omega) (by omega)
    have hi : vp_in (nI y) 8 := vp_in_nI (by omega) (by decide)
    refine br_f hnv ⟨hi, br_c (fun h => nm_r (nI_1 y) (ih (y + 1) m (by omega) (by omega) ⟨i, i1, by omega, i3⟩ (fun j j1 j2 => ?_))) (fun h => ⟨hi, nm_r eb (nm_r (nI_1 y) (ih (y + 1) (w y) (by omega) (by omega) ⟨y, h1, by omega, rfl⟩ (fun j j1 j2 => ?_)))⟩)⟩
    · rw [eb, iz_le (by omega) (by omega)] at h
      by_cases z : j = y
      · rw [z]; exact h
      · exact h3 j j1 (by omega)
    · rw [eb, iz_le (by omega) (by omega)] at h
      by_cases z : j = y
      · rw [z]; exact Int.le_refl _
      · have := h3 j j1 (by omega)
        omega
theorem cd_ex {n j : Nat} (hn : n ≤ 8) (h1 : 1 ≤ j) (h2 : j < 2 ^ n - 1) : ∃ a b, a < n ∧ b < n ∧ bt (nI j) a = true ∧ bt (nI j) b = false := by
  have hp := yw_pw hn
  have big : ∀ i, n ≤ i → j.testBit i = false := by
    intro i hi
    apply Nat.testBit_lt_two_pow
    have : 2 ^ n ≤ 2 ^ i := Nat.pow_le_pow_right (n := 2) (by decide) hi
    omega
  have ha : ∃ a, a < n ∧ bt (nI j) a = true := by
    apply Classical.byContradiction
    intro H
    have : j = 0 := Nat.eq_of_testBit_eq (fun i => by
      rw [Nat.zero_testBit]
      rcases Nat.lt_or_ge i n with z | z
      · cases e : j.testBit i
        · rfl
        · exact absurd ⟨i, z, by rw [bz_nI _ (by omega), e]⟩ H
      · exact big i z)
    omega
  have hb : ∃ b, b < n ∧ bt (nI j) b = false := by
    apply Classical.byContradiction
    intro H
    have : j = 2 ^ n - 1 := Nat.eq_of_testBit_eq (fun i => by
      rw [Nat.testBit_two_pow_sub_one]
      rcases Nat.lt_or_ge i n with z | z
      · rw [decide_eq_true z]
        cases e : j.testBit i
        · exact absurd ⟨i, z, by rw [bz_nI _ (by omega), e]⟩ H
        · rfl
      · rw [decide_eq_false (by omega)]
        exact big i z)
    omega
  obtain ⟨a, a1, a2⟩ := ha
  obtain ⟨b, b1, b2⟩ := hb
  exact ⟨a, b, a1, b1, a2, b2⟩
theorem sm_eq {n : Nat} {caps : Nat → Int32} {p : Nat → Nat} {w : Nat → Int} {m m' : Int} (hC : dw_C n (tb_f caps)) (h2 : 2 ≤ n) (T : gt_T n (tb_f caps) p w n) (h : ∃ i, 1 ≤ i ∧ i < n ∧ w i = m) (h' : ∀ i, 1 ≤ i → i < n → m ≤ w i) (I : mn_I (fun _ => True) (yw_W n caps) (2 ^ n - 1) m') : m' = m := by
  have hn := hC.1
  have hp : 2 ^ 2 ≤ 2 ^ n := Nat.pow_le_pow_right (n := 2) (by decide) h2
  rcases I with ⟨_, z⟩ | ⟨_, _, ⟨j, j1, j2, _, j4⟩, z⟩
  · exact absurd trivial (z 1 (by omega) (by omega))
  · obtain ⟨i, i1, i2, i3⟩ := h
    have le1 : m ≤ m' := by
      obtain ⟨a, b, a1, b1, a2, b2⟩ := cd_ex hn j1 j2
      obtain ⟨y, y1, y2, y3⟩ := gt_edge hC T (S := bt (nI j)) a1 b1 (by rw [a2, b2]; decide)
      have := h' y y1 y2
      have j4' : dw_D n (tb_f caps) (bt (nI j)) = m' := j4
      omega
    have le2 : m' ≤ m := by
      obtain ⟨t1, t2, _⟩ := T i i1 i2
      obtain ⟨⟨S, s1, s2, s3⟩, _⟩ := lm_s hC (u := i) (v := p i) (by omega)
      obtain ⟨c1, c2, c3⟩ := yw_cd hn (S := S) i2 (by omega) s1 s2
      have := z _ c1 c2 trivial
      rw [yw_cw hn] at this
      omega
    omega
/-! sums over couples -/
def zt_h (g : Nat → Nat → Int) (u v : Nat) : Int := if u < v then g u v else 0
theorem zt_0 (g : Nat → Nat → Int) (u : Nat) : zs_S (zt_h g u) (u + 1) = 0 := zs_z' (fun i hi => if_neg (by omega))
theorem zt_1 (g : Nat → Nat → Int) {u v : Nat} (h : u < v) : zt_h g u v = g u v := if_pos h
theorem zs_tri {n : Nat} (g : Nat → Nat → Int) (hs : ∀ u v, u < n → v < n → g u v = g v u) : zs_S (fun u => zs_S (g u) u) n = zs_S (fun u => zs_S (zt_h g u) n) n := by
  have e : zs_S (fun u => zs_S (g u) u) n = zs_S (fun u => zs_S (fun v => if v < u then g u v else 0) n) n := by
    apply zs_cg
    intro u hu
    rw [zs_tail (f := fun v => if v < u then g u v else 0) (k := u) (by omega) (fun i h1 h2 => if_neg (by omega))]
    exact zs_cg (fun v hv => (if_pos hv).symm)
  rw [e, zs_comm]
  apply zs_cg
  intro u hu
  apply zs_cg
  intro v hv
  unfold zt_h
  rw [hs u v hu hv]
/-! couples -/
noncomputable def cp_g (n : Nat) (a : Nat → Int32) (k : Int32) (u v : Nat) : Int := if iz_I (lm_L n (tb_f a) u v) < k then 0 else 1
theorem xc_21 {post : Int32 → SX → Prop} {J : Int32 → Int32 → Prop} {k re fb : Int32} {n u : Nat} {caps fl cf qu ho hb : Nat → Int32} {p : Nat → Nat} {w : Nat → Int} (hC : dw_C n (tb_f caps)) (T : xt_T n caps ho hb p w) (hu : u < n) (b : Int) (K : J (iz_I (b + zs_S (zt_h (cp_g n caps k) u) n)) (nI (u + 1))) :
    ∀ d v, v + d = n → u < v → wX_couples_21 post J k (nI u) (nI n) re fb caps fl cf qu ho hb (d + 1) (iz_I (b + zs_S (zt_h (cp_g n caps k) u) v)) (nI v) := by
  have hn := hC.1
  intro d
  induction d with
  | zero =>
    intro v hv huv
    have : v = n := by omega
    subst this
    exact br_t (Int32.le_refl _) (nm_r (nI_1 u) K)
  | succ d ih =>
    intro v hv huv
    have hnv : ¬ nI n ≤ nI v := nI_ge (by omega) (by omega)
    have step := ih (v + 1) (by omega) (by omega)
    rw [zs_s, zt_1 _ huv] at step
    refine br_f hnv (xk_w hC T hu (by omega) (br_c (fun h => nm_r (nI_1 v) ?_) (fun h => nm_r (iz_1 _) (nm_r (nI_1 v) ?_))))
    · rw [show cp_g n caps k u v = 0 from if_pos h, Int.add_zero] at step
      exact step
    · rw [show cp_g n caps k u v = 1 from if_neg h, ← Int.add_assoc] at step
      exact step
theorem xc_8 {post : Int32 → SX → Prop} {k re fb : Int32} {n : Nat} {caps fl cf qu ho hb : Nat → Int32} {p : Nat → Nat} {w : Nat → Int} (hC : dw_C n (tb_f caps)) (T : xt_T n caps ho hb p w) (K : post (iz_I (zs_S (fun u => zs_S (zt_h (cp_g n caps k) u) n) n)) (nI n, re, fb, caps, fl, cf, qu, ho, hb)) :
    ∀ d u, u + d = n → wX_couples_8 post k (nI n) re fb caps fl cf qu ho hb (d + 1) (iz_I (zs_S (fun u => zs_S (zt_h (cp_g n caps k) u) n) u)) (nI u) := by
  have hn := hC.1
  intro d
  induction d with
  | zero =>
    intro u hu
    have : u = n := by omega
    subst this
    exact br_t (Int32.le_refl _) K
  | succ d ih =>
    intro u hu
    have hnv : ¬ nI n ≤ nI u := nI_ge (by omega) (by omega)
    have h := xc_21 (post := post) (J := wX_couples_8 post k (nI n) re fb caps fl cf qu ho hb (d + 1)) (k := k) (re := re) (fb := fb) (fl := fl) (cf := cf) (qu := qu) hC T (u := u) (by omega) (zs_S (fun u => zs_S (zt_h (cp_g n caps k) u) n) u) (ih (u + 1) (by omega)) d (u + 1) (by omega) (by omega)
    rw [zt_0, Int.add_zero] at h
    exact br_f hnv (nm_r (nI_1 u) ⟨d + 1, h⟩)
theorem yc_15 {post : Int32 → Prop} {J : Int32 → Int32 → Prop} {k : Int32} {n u : Nat} {a : Nat → Int32} (hC : dw_C n (tb_f a)) (hu : u < n) (b : Int) (K : J (iz_I (b + zs_S (cp_g n a k u) u)) (nI (u + 1))) :
    ∀ d v, v + d = u → wY_couples_15 post J k (nI u) (nI n) a (d + 1) (iz_I (b + zs_S (cp_g n a k u) v)) (nI v) := by
  have hn := hC.1
  intro d
  induction d with
  | zero =>
    intro v hv
    have : v = u := by omega
    subst this
    exact br_t (Int32.le_refl _) (nm_r (nI_1 _) K)
  | succ d ih =>
    intro v hv
    have hnv : ¬ nI u ≤ nI v := nI_ge (by omega) (by omega)
    have step := ih (v + 1) (by omega)
    rw [zs_s] at step
    refine br_f hnv (yw_lk hC hu (by omega) (by omega) (br_c (fun h => nm_r (nI_1 v) ?_) (fun h => nm_r (iz_1 _) (nm_r (nI_1 v) ?_))))
    · rw [show cp_g n a k u v = 0 from if_pos h, Int.add_zero] at step
      exact step
    · rw [show cp_g n a k u v = 1 from if_neg h, ← Int.add_assoc] at step
      exact step
theorem yc_4 {post : Int32 → Prop} {k : Int32} {n : Nat} {a : Nat → Int32} (hC : dw_C n (tb_f a)) (K : post (iz_I (zs_S (fun u => zs_S (cp_g n a k u) u) n))) :
    ∀ d u, u + d = n → wY_couples_4 post k (nI n) a (d + 1) (iz_I (zs_S (fun u => zs_S (cp_g n a k u) u) u)) (nI u) := by
  have hn := hC.1
  intro d
  induction d with
  | zero =>
    intro u hu
    have : u = n := by omega
    subst this
    exact br_t (Int32.le_refl _) K
  | succ d ih =>
    intro u hu
    have hnv : ¬ nI n ≤ nI u := nI_ge (by omega) (by omega)
    have h := yc_15 (post := post) (J := wY_couples_4 post k (nI n) a (d + 1)) (k := k) hC (u := u) (by omega) (zs_S (fun u => zs_S (cp_g n a k u) u) u) (ih (u + 1) (by omega)) u 0 (by omega)
    rw [zs_0, Int.add_zero] at h
    exact br_f hnv ⟨u + 1, h⟩
/-! total -/
theorem xo_20 {post : Int32 → SX → Prop} {J : Int32 → Int32 → Prop} {re fb : Int32} {n u : Nat} {caps fl cf qu ho hb : Nat → Int32} {p : Nat → Nat} {w : Nat → Int} (hC : dw_C n (tb_f caps)) (T : xt_T n caps ho hb p w) (hu : u < n) (b : Int) (K : J (iz_I (b + zs_S (zt_h (lm_L n (tb_f caps)) u) n)) (nI (u + 1))) :
    ∀ d v, v + d = n → u < v → wX_total_20 post J (nI u) (nI n) re fb caps fl cf qu ho hb (d + 1) (iz_I (b + zs_S (zt_h (lm_L n (tb_f caps)) u) v)) (nI v) := by
  have hn := hC.1
  intro d
  induction d with
  | zero =>
    intro v hv huv
    have : v = n := by omega
    subst this
    exact br_t (Int32.le_refl _) (nm_r (nI_1 u) K)
  | succ d ih =>
    intro v hv huv
    have hnv : ¬ nI n ≤ nI v := nI_ge (by omega) (by omega)
    have step := ih (v + 1) (by omega) (by omega)
    rw [zs_s, zt_1 _ huv, ← Int.add_assoc] at step
    exact br_f hnv (xk_w hC T hu (by omega) (nm_r (iz_add _ _) (nm_r (nI_1 v) step)))
theorem xo_8 {post : Int32 → SX → Prop} {re fb : Int32} {n : Nat} {caps fl cf qu ho hb : Nat → Int32} {p : Nat → Nat} {w : Nat → Int} (hC : dw_C n (tb_f caps)) (T : xt_T n caps ho hb p w) (K : post (iz_I (zs_S (fun u => zs_S (zt_h (lm_L n (tb_f caps)) u) n) n)) (nI n, re, fb, caps, fl, cf, qu, ho, hb)) :
    ∀ d u, u + d = n → wX_total_8 post (nI n) re fb caps fl cf qu ho hb (d + 1) (iz_I (zs_S (fun u => zs_S (zt_h (lm_L n (tb_f caps)) u) n) u)) (nI u) := by
  have hn := hC.1
  intro d
  induction d with
  | zero =>
    intro u hu
    have : u = n := by omega
    subst this
    exact br_t (Int32.le_refl _) K
  | succ d ih =>
    intro u hu
    have hnv : ¬ nI n ≤ nI u := nI_ge (by omega) (by omega)
    have h := xo_20 (post := post) (J := wX_total_8 post (nI n) re fb caps fl cf qu ho hb (d + 1)) (re := re) (fb := fb) (fl := fl) (cf := cf) (qu := qu) hC T (u := u) (by omega) (zs_S (fun u => zs_S (zt_h (lm_L n (tb_f caps)) u) n) u) (ih (u + 1) (by omega)) d (u + 1) (by omega) (by omega)
    rw [zt_0, Int.add_zero] at h
    exact br_f hnv (nm_r (nI_1 u) ⟨d + 1, h⟩)
theorem yo_14 {post : Int32 → Prop} {J : Int32 → Int32 → Prop} {n u : Nat} {a : Nat → Int32} (hC : dw_C n (tb_f a)) (hu : u < n) (b : Int) (K : J (iz_I (b + zs_S (lm_L n (tb_f a) u) u)) (nI (u + 1))) :
    ∀ d v, v + d = u → wY_total_14 post J (nI u) (nI n) a (d + 1) (iz_I (b + zs_S (lm_L n (tb_f a) u) v)) (nI v) := by
  have hn := hC.1
  intro d
  induction d with
  | zero =>
    intro v hv
    have : v = u := by omega
    subst this
    exact br_t (Int32.le_refl _) (nm_r (nI_1 _) K)
  | succ d ih =>
    intro v hv
    have hnv : ¬ nI u ≤ nI v := nI_ge (by omega) (by omega)
    have step := ih (v + 1) (by omega)
    rw [zs_s, ← Int.add_assoc] at step
    exact br_f hnv (yw_lk hC hu (by omega) (by omega) (nm_r (iz_add _ _) (nm_r (nI_1 v) step)))
theorem yo_4 {post : Int32 → Prop} {n : Nat} {a : Nat → Int32} (hC : dw_C n (tb_f a)) (K : post (iz_I (zs_S (fun u => zs_S (lm_L n (tb_f a) u) u) n))) :
    ∀ d u, u + d = n → wY_total_4 post (nI n) a (d + 1) (iz_I (zs_S (fun u => zs_S (lm_L n (tb_f a) u) u) u)) (nI u) := by
  have hn := hC.1
  intro d
  induction d with
  | zero =>
    intro u hu
    have : u = n := by omega
    subst this
    exact br_t (Int32.le_refl _) K
  | succ d ih =>
    intro u hu
    have hnv : ¬ nI n ≤ nI u := nI_ge (by omega) (by omega)
    have h := yo_14 (post := post) (J := wY_total_4 post (nI n) a (d + 1)) hC (u := u) (by omega) (zs_S (fun u => zs_S (lm_L n (tb_f a) u) u) u) (ih (u + 1) (by omega)) u 0 (by omega)
    rw [zs_0, Int.add_zero] at h
    exact br_f hnv ⟨u + 1, h⟩
end
section
/-! groups, group -/
theorem kz_lt {z : Int} (k : Int32) (h : -1000000 ≤ z ∧ z ≤ 1000000) : iz_I z < k ↔ z < k.toInt := by rw [Int32.lt_iff_toInt_lt, iz_i h]
theorem kz_le {z : Int} (k : Int32) (h : -1000000 ≤ z ∧ z ≤ 1000000) : k ≤ iz_I z ↔ k.toInt ≤ z := by rw [Int32.le_iff_toInt_le, iz_i h]
theorem lm_r {n : Nat} {c : Nat → Nat → Int} (hC : dw_C n c) (u v : Nat) : -1000000 ≤ lm_L n c u v ∧ lm_L n c u v ≤ 1000000 := by
  have h1 := lm_nn hC u v
  have h2 := lm_bd' hC u v
  omega
/-- u is the first of its group -/
def gg_b (w : Nat → Int) (k : Int32) (u : Nat) : Bool := decide (u = 0) || !decide (k ≤ iz_I (w u))
theorem gg_e {n : Nat} {c : Nat → Nat → Int} {p : Nat → Nat} {w : Nat → Int} {k : Int32} (hC : dw_C n c) (T : gt_T n c p w n) {u : Nat} (hu : u < n) : gg_b w k u = true ↔ ∀ v, v < u → iz_I (lm_L n c u v) < k := by
  by_cases z : u = 0
  · subst z
    exact ⟨fun _ v hv => absurd hv (by omega), fun _ => rfl⟩
  · obtain ⟨t1, t2, t3⟩ := T u (by omega) hu
    have r : -1000000 ≤ w u ∧ w u ≤ 1000000 := by rw [t2]; exact lm_r hC _ _
    unfold gg_b
    rw [decide_eq_false z, Bool.false_or, Bool.not_eq_true', decide_eq_false_iff_not, kz_le k r]
    constructor
    · intro h v hv
      rw [kz_lt k (lm_r hC _ _), t3 v hv]
      omega
    · intro h
      have := h (p u) t1
      rw [kz_lt k (lm_r hC _ _), ← t2] at this
      omega
theorem xg_8 {post : Int32 → SX → Prop} {k re fb : Int32} {n : Nat} {caps fl cf qu ho hb : Nat → Int32} {p : Nat → Nat} {w : Nat → Int} (hn : n ≤ 8) (T : xt_T n caps ho hb p w) (K : post (nI (cn_N (gg_b w k) n)) (nI n, re, fb, caps, fl, cf, qu, ho, hb)) :
    ∀ d y, y + d = n → 1 ≤ y → wX_groups_8 post k (nI n) re fb caps fl cf qu ho hb (d + 1) (nI (cn_N (gg_b w k) y)) (nI y) := by
  intro d
  induction d with
  | zero =>
    intro y hy h1
    have : y = n := by omega
    subst this
    exact br_t (Int32.le_refl _) K
  | succ d ih =>
    intro y hy h1
    have hnv : ¬ nI n ≤ nI y := nI_ge (by omega) (by omega)
    have step := ih (y + 1) (by omega) (by omega)
    have eb : hb (nI y).toNatClampNeg = iz_I (w y) := by rw [nI_clamp (by omega), T.2.1 y (by omega)]
    rw [cn_s] at step
    refine br_f hnv ⟨vp_in_nI (by omega) (by decide), br_c (fun h => nm_r (nI_1 y) ?_) (fun h => nm_r (nI_1 _) (nm_r (nI_1 y) ?_))⟩
    · rw [eb] at h
      have e : gg_b w k y = false := by
        unfold gg_b
        rw [decide_eq_false (by omega), decide_eq_true h]
        rfl
      rw [e, if_neg Bool.false_ne_true, Nat.add_zero] at step
      exact step
    · rw [eb] at h
      have e : gg_b w k y = true := by
        unfold gg_b
        rw [decide_eq_false h]
        exact Bool.or_true _
      rw [e, if_pos rfl] at step
      exact step
theorem yg_4 {post : Int32 → Prop} {k : Int32} {n : Nat} {a : Nat → Int32} {p : Nat → Nat} {w : Nat → Int} (hC : dw_C n (tb_f a)) (T : gt_T n (tb_f a) p w n) (K : post (nI (cn_N (gg_b w k) n))) :
    ∀ d u, u + d = n → wY_groups_4 post k (nI n) a (d + 1) (nI (cn_N (gg_b w k) u)) (nI u) := by
  have hn := hC.1
  intro d
  induction d with
  | zero =>
    intro u hu
    have : u = n := by omega
    subst this
    exact br_t (Int32.le_refl _) K
  | succ d ih =>
    intro u hu
    have hnv : ¬ nI n ≤ nI u := nI_ge (by omega) (by omega)
    have step := ih (u + 1) (by omega)
    rw [cn_s] at step
    refine br_f hnv (gr_o hC (by omega) (fun G hG => ?_))
    have hb : (∀ v, v < u → bt G v = false) ↔ gg_b w k u = true := by
      rw [gg_e hC T (by omega)]
      constructor
      · intro h v hv
        have h1 := h v hv
        rw [hG] at h1
        unfold gr_B at h1
        rw [decide_eq_false (p := v = u) (by omega), decide_eq_true (p := v < n) (by omega), Bool.false_or, Bool.true_and, Bool.not_eq_false', decide_eq_true_eq] at h1
        exact h1
      · intro h v hv
        rw [hG]
        unfold gr_B
        rw [decide_eq_false (p := v = u) (by omega), decide_eq_true (p := v < n) (by omega), Bool.false_or, Bool.true_and, Bool.not_eq_false', decide_eq_true_eq]
        exact h v hv
    refine br_c (fun h => nm_r (nI_1 _) (nm_r (nI_1 u) ?_)) (fun h => nm_r (nI_1 u) ?_)
    · have e := hb.mp ((bz_low G (by omega)).mp h)
      rw [e, if_pos rfl] at step
      exact step
    · have e : gg_b w k u = false := by
        cases z : gg_b w k u
        · rfl
        · exact absurd ((bz_low G (by omega)).mpr (hb.mpr z)) h
      rw [e, if_neg Bool.false_ne_true, Nat.add_zero] at step
      exact step
/-! group: closing under the strong edges -/
def go_c (p : Nat → Nat) (w : Nat → Int) (k : Int32) (X : Int32) (v : Nat) : Prop := ∀ i, 1 ≤ i → i < v → k ≤ iz_I (w i) → bt X i = bt X (p i)
def go_I (n : Nat) (p : Nat → Nat) (w : Nat → Int) (k : Int32) (G : Nat → Bool) (X0 X : Int32) (v : Nat) : Prop := (∀ i, bt X i = true → G i = true) ∧ (∀ i, bt X0 i = true → bt X i = true) ∧ (cn_N (bt X0) n + 1 ≤ cn_N (bt X) n ∨ (X = X0 ∧ go_c p w k X v)) ∧ (go_c p w k X0 n → X = X0)
def go_e (v q : Nat) : Int32 := ((1 : Int32) <<< (nI v &&& 31)) ||| ((1 : Int32) <<< (nI q &&& 31))
theorem go_eb {v q : Nat} (hv : v < 32) (hq : q < 32) (i : Nat) : bt (go_e v q) i = (decide (i = v) || decide (i = q)) := by
  unfold go_e
  rw [b_or, bz_s hv, bz_s hq]
theorem go_z {X : Int32} {v q : Nat} (hv : v < 32) (hq : q < 32) : (X &&& go_e v q) = 0 ↔ bt X v = false ∧ bt X q = false := by
  constructor
  · intro h
    have hb : ∀ i, (bt X i && bt (go_e v q) i) = false := fun i => by rw [← b_and, h, b_0]
    have h1 := hb v
    have h2 := hb q
    rw [go_eb hv hq, decide_eq_true rfl, Bool.true_or, Bool.and_true] at h1
    rw [go_eb hv hq, decide_eq_true (p := q = q) rfl, Bool.or_true, Bool.and_true] at h2
    exact ⟨h1, h2⟩
  · intro h
    apply b_ext
    intro i hi
    rw [b_and, b_0, go_eb hv hq]
    by_cases e1 : i = v
    · rw [e1, h.1, Bool.false_and]
    · by_cases e2 : i = q
      · rw [e2, h.2, Bool.false_and]
      · rw [decide_eq_false e1, decide_eq_false e2]; exact Bool.and_false _
theorem go_cs {p : Nat → Nat} {w : Nat → Int} {k X : Int32} {v : Nat} (h : go_c p w k X v) (e : k ≤ iz_I (w v) → bt X v = bt X (p v)) : go_c p w k X (v + 1) := by
  intro i h1 h2 h3
  by_cases z : i = v
  · rw [z] at h3 ⊢; exact e h3
  · exact h i h1 (by omega) h3
theorem go_keep {n : Nat} {p : Nat → Nat} {w : Nat → Int} {k : Int32} {G : Nat → Bool} {X0 X : Int32} {v : Nat} (I : go_I n p w k G X0 X v) (e : k ≤ iz_I (w v) → bt X v = bt X (p v)) : go_I n p w k G X0 X (v + 1) := by
  refine ⟨I.1, I.2.1, ?_, I.2.2.2⟩
  rcases I.2.2.1 with z | z
  · exact Or.inl z
  · exact Or.inr ⟨z.1, go_cs z.2 e⟩
theorem go_add {n : Nat} {p : Nat → Nat} {w : Nat → Int} {k : Int32} {G : Nat → Bool} {X0 X : Int32} {v : Nat} (hn : n ≤ 8) (h1 : 1 ≤ v) (hv : v < n) (hq : p v < n) (hk : k ≤ iz_I (w v)) (hG : G v = G (p v)) (h : ¬ (bt X v = false ∧ bt X (p v) = false)) (I : go_I n p w k G X0 X v) : go_I n p w k G X0 (X ||| go_e v (p v)) (v + 1) := by
  have hb : ∀ i, bt (X ||| go_e v (p v)) i = (bt X i || (decide (i = v) || decide (i = p v))) := fun i => by rw [b_or, go_eb (by omega) (by omega)]
  by_cases both : bt X v = true ∧ bt X (p v) = true
  · have e : X ||| go_e v (p v) = X := by
      apply b_ext
      intro i hi
      rw [hb]
      by_cases e1 : i = v
      · rw [e1, both.1, Bool.true_or]
      · by_cases e2 : i = p v
        · rw [e2, both.2, Bool.true_or]
        · rw [decide_eq_false e1, decide_eq_false e2]; exact Bool.or_false _
    rw [e]
    exact go_keep I (fun _ => both.1.trans both.2.symm)
  · have ne : bt X v ≠ bt X (p v) := by
      intro e
      cases z : bt X v
      · exact h ⟨z, e ▸ z⟩
      · exact both ⟨z, e ▸ z⟩
    have mono : ∀ i, bt X i = true → bt (X ||| go_e v (p v)) i = true := fun i hi => by rw [hb, hi, Bool.true_or]
    have c1 : cn_N (bt X0) n ≤ cn_N (bt X) n := cn_mono (fun i _ hi => I.2.1 i hi)
    have c2 : cn_N (bt X) n + 1 ≤ cn_N (bt (X ||| go_e v (p v))) n := by
      rcases Nat.lt_or_ge (cn_N (bt X) n) (cn_N (bt (X ||| go_e v (p v))) n) with z | z
      · exact z
      · have q := cn_eq (S := bt X) (T := bt (X ||| go_e v (p v))) (n := n) (fun i _ hi => mono i hi) z
        have q1 := q v hv
        have q2 := q (p v) hq
        rw [hb, decide_eq_true (p := v = v) rfl, Bool.true_or, Bool.or_true] at q1
        rw [hb, decide_eq_true (p := p v = p v) rfl, Bool.or_true, Bool.or_true] at q2
        exact absurd ⟨q1, q2⟩ both
    refine ⟨fun i hi => ?_, fun i hi => mono i (I.2.1 i hi), Or.inl (by omega), fun hc => ?_⟩
    · have gv : G v = true := by
        cases z : bt X v
        · have z2 : bt X (p v) = true := by
            cases y : bt X (p v)
            · exact absurd ⟨z, y⟩ h
            · rfl
          rw [hG]
          exact I.1 _ z2
        · exact I.1 _ z
      by_cases e1 : i = v
      · rw [e1]; exact gv
      · by_cases e2 : i = p v
        · rw [e2, ← hG]; exact gv
        · rw [hb, decide_eq_false e1, decide_eq_false e2] at hi
          exact I.1 i (by simpa using hi)
    · have e := I.2.2.2 hc
      have := hc v h1 hv hk
      rw [← e] at this
      exact absurd this ne
theorem go_31 {post : Int32 → SX → Prop} {J : Int32 → Int32 → Prop} {k re fb X0 : Int32} {n r : Nat} {G : Nat → Bool} {caps fl cf qu ho hb : Nat → Int32} {p : Nat → Nat} {w : Nat → Int} (hn : n ≤ 8) (T : xt_T n caps ho hb p w) (hG : ∀ v, 1 ≤ v → v < n → k ≤ iz_I (w v) → G v = G (p v))
    (K : ∀ X, go_I n p w k G X0 X n → J X (nI (r + 1))) :
    ∀ d v X, v + d = n → 1 ≤ v → go_I n p w k G X0 X v → wX_group_31 post J k (nI r) (nI n) re fb caps fl cf qu ho hb (d + 1) X (nI v) := by
  intro d
  induction d with
  | zero =>
    intro v X hv h1 I
    have : v = n := by omega
    subst this
    exact br_t (Int32.le_refl _) (nm_r (nI_1 r) (K X I))
  | succ d ih =>
    intro v X hv h1 I
    have hnv : ¬ nI n ≤ nI v := nI_ge (by omega) (by omega)
    have eb : hb (nI v).toNatClampNeg = iz_I (w v) := by rw [nI_clamp (by omega), T.2.1 v (by omega)]
    have eo : ho (nI v).toNatClampNeg = nI (p v) := by rw [nI_clamp (by omega), T.1 v (by omega)]
    have hp := (T.2.2 v h1 (by omega)).1
    have hi : vp_in (nI v) 8 := vp_in_nI (by omega) (by decide)
    refine br_f hnv ⟨hi, br_c (fun h => ⟨hi, nm_r (e' := go_e v (p v)) (by rw [eo]; rfl) (br_c (fun h2 => nm_r (nI_1 v) (ih (v + 1) X (by omega) (by omega) (go_keep I (fun _ => ?_)))) (fun h2 => nm_e (nm_r (nI_1 v) (ih (v + 1) _ (by omega) (by omega) (go_add hn h1 (by omega) (by omega) ?_ (hG v h1 (by omega) ?_) ?_ I)))))⟩) (fun h => nm_r (nI_1 v) (ih (v + 1) X (by omega) (by omega) (go_keep I (fun z => absurd ?_ h))))⟩
    · have := (go_z (by omega) (by omega)).mp h2
      rw [this.1, this.2]
    · rw [eb] at h; exact h
    · rw [eb] at h; exact h
    · exact fun z => h2 ((go_z (by omega) (by omega)).mpr z)
    · rw [eb]; exact z
theorem go_21 {post : Int32 → SX → Prop} {k re fb : Int32} {n u : Nat} {G : Nat → Bool} {caps fl cf qu ho hb : Nat → Int32} {p : Nat → Nat} {w : Nat → Int} (hn : n ≤ 8) (h2 : 2 ≤ n) (T : xt_T n caps ho hb p w) (hG : ∀ v, 1 ≤ v → v < n → k ≤ iz_I (w v) → G v = G (p v))
    (K : ∀ X, bt X u = true → (∀ i, bt X i = true → G i = true) → go_c p w k X n → post X (nI n, re, fb, caps, fl, cf, qu, ho, hb)) :
    ∀ d r X, r + d = 8 → bt X u = true → (∀ i, bt X i = true → G i = true) → (r + 1 ≤ cn_N (bt X) n ∨ go_c p w k X n) → wX_group_21 post k (nI n) re fb caps fl cf qu ho hb (d + 1) X (nI r) := by
  intro d
  induction d with
  | zero =>
    intro r X hr hu hX h
    have : r = 8 := by omega
    subst this
    have := cn_le (bt X) n
    refine br_t (Int32.le_refl _) (K X hu hX ?_)
    rcases h with z | z
    · omega
    · exact z
  | succ d ih =>
    intro r X hr hu hX h
    refine br_f (nI_ge (b := 8) (by omega) (by decide)) ⟨(n - 1) + 1, go_31 (X0 := X) hn T hG (fun Y I => ?_) (n - 1) 1 X (by omega) (by omega) ⟨hX, fun i hi => hi, Or.inr ⟨rfl, fun i a b => absurd a (by omega)⟩, fun _ => rfl⟩⟩
    refine ih (r + 1) Y (by omega) (I.2.1 u hu) I.1 ?_
    rcases h with z | z
    · rcases I.2.2.1 with y | y
      · exact Or.inl (by omega)
      · exact Or.inr y.2
    · have e := I.2.2.2 z
      rw [e]
      exact Or.inr z
/-- the strongly linked lie in one closed set -/
theorem gp_c {n : Nat} {c : Nat → Nat → Int} {p : Nat → Nat} {w : Nat → Int} {k : Int} {C : Nat → Bool} (hC : dw_C n c) (T : gt_T n c p w n) (h : ∀ v, 1 ≤ v → v < n → k ≤ w v → C v = C (p v)) : ∀ d x y, x + y ≤ d → x < n → y < n → x ≠ y → k ≤ lm_L n c x y → C x = C y := by
  have one : ∀ d, (∀ x y, x + y ≤ d → x < n → y < n → x ≠ y → k ≤ lm_L n c x y → C x = C y) → ∀ x y, x + y ≤ d + 1 → x < n → y < x → k ≤ lm_L n c x y → C x = C y := by
    intro d ih x y hd hx hyx hk
    obtain ⟨t1, t2, t3⟩ := T x (by omega) hx
    rw [t3 y hyx] at hk
    rw [h x (by omega) hx (by omega)]
    by_cases e : p x = y
    · rw [e]
    · exact ih (p x) y (by omega) (by omega) (by omega) e (by omega)
  intro d
  induction d with
  | zero => intro x y hd hx hy hne; omega
  | succ d ih =>
    intro x y hd hx hy hne hk
    rcases Nat.lt_or_ge y x with z | z
    · exact one d ih x y hd hx z hk
    · rw [lm_sy hC] at hk
      exact (one d ih y x (by omega) hy (by omega) hk).symm
theorem gr_cl {n : Nat} {a : Nat → Int32} {p : Nat → Nat} {w : Nat → Int} {k : Int32} {u : Nat} (hC : dw_C n (tb_f a)) (T : gt_T n (tb_f a) p w n) (hu : u < n) : ∀ v, 1 ≤ v → v < n → k ≤ iz_I (w v) → gr_B n a u k n v = gr_B n a u k n (p v) := by
  intro v h1 hv hk
  obtain ⟨t1, t2, t3⟩ := T v h1 hv
  have r : -1000000 ≤ w v ∧ w v ≤ 1000000 := by rw [t2]; exact lm_r hC _ _
  rw [kz_le k r, t2] at hk
  have m : ∀ i, i < n → (gr_B n a u k n i = true ↔ (i = u ∨ k.toInt ≤ lm_L n (tb_f a) u i)) := by
    intro i hi
    unfold gr_B
    rw [Bool.or_eq_true, decide_eq_true_eq, decide_eq_true hi, Bool.true_and, Bool.not_eq_true', decide_eq_false_iff_not, kz_lt k (lm_r hC _ _)]
    omega
  rw [Bool.eq_iff_iff, m v hv, m (p v) (by omega)]
  constructor
  · rintro (e | e)
    · subst e
      exact Or.inr hk
    · by_cases z : p v = u
      · exact Or.inl z
      · right
        rcases lm_ul hC (u := u) (v := p v) v (fun q => z q.symm) with y | y <;> omega
  · rintro (e | e)
    · right
      rw [← e, lm_sy hC]
      exact hk
    · by_cases z : v = u
      · exact Or.inl z
      · right
        rcases lm_ul hC (u := u) (v := v) (p v) (fun q => z q.symm) with y | y
        · omega
        · rw [lm_sy hC (p v) v] at y; omega
theorem gr_end {n : Nat} {a : Nat → Int32} {p : Nat → Nat} {w : Nat → Int} {k X : Int32} {u : Nat} (hC : dw_C n (tb_f a)) (T : gt_T n (tb_f a) p w n) (hu : u < n) (x1 : bt X u = true) (x2 : ∀ i, bt X i = true → gr_B n a u k n i = true) (x3 : go_c p w k X n) : ∀ i, bt X i = gr_B n a u k n i := by
  intro i
  cases z : gr_B n a u k n i
  · cases y : bt X i
    · rfl
    · rw [x2 i y] at z; cases z
  · unfold gr_B at z
    rw [Bool.or_eq_true, decide_eq_true_eq, Bool.and_eq_true, decide_eq_true_eq, Bool.not_eq_true', decide_eq_false_iff_not, kz_lt k (lm_r hC _ _)] at z
    by_cases e : i = u
    · rw [e]; exact x1
    · obtain ⟨y1, y2⟩ : i < n ∧ ¬ lm_L n (tb_f a) u i < k.toInt := by
        rcases z with q | q
        · exact absurd q e
        · exact q
      have h := gp_c hC T (k := k.toInt) (C := bt X) (fun v h1 h2 h3 => x3 v h1 h2 (by
        have t2 := (T v h1 h2).2.1
        rw [kz_le k (by rw [t2]; exact lm_r hC _ _)]
        exact h3)) (u + i) u i (Nat.le_refl _) hu y1 (fun q => e q.symm) (by omega)
      rw [← h]
      exact x1
end
section
/-! points and couples -/
def ok_P (n : Nat) (x : Int32) : Prop := ∃ u, u < n ∧ x = nI u
def ok_C (n : Nat) (x y : Int32) : Prop := ∃ u v, u < n ∧ v < n ∧ u ≠ v ∧ x = nI u ∧ y = nI v
theorem xi_p1 {post : Int32 → Prop} {re fb : Int32} {n u : Nat} {caps fl cf qu ho hb : Nat → Int32} (hn : n ≤ 8) (hu : u < n) (K : post 1) : wpX_isPoint post (nI n, re, fb, caps, fl, cf, qu, ho, hb) (nI u) :=
  br_f (nI_pos (by omega)) (br_f (nI_ge hu (by omega)) K)
theorem yi_p1 {post : Int32 → Prop} {n u : Nat} {a : Nat → Int32} (hn : n ≤ 8) (hu : u < n) (K : post 1) : wpY_isPoint post (nI n, a) (nI u) :=
  br_f (nI_pos (by omega)) (br_f (nI_ge hu (by omega)) K)
theorem xi_p0 {post : Int32 → Prop} {re fb : Int32} {n : Nat} {x : Int32} {caps fl cf qu ho hb : Nat → Int32} (hn : n ≤ 8) (h : ¬ ok_P n x) (K : post 0) : wpX_isPoint post (nI n, re, fb, caps, fl, cf, qu, ho, hb) x := by
  rcases pk_ix x (n := n) (by omega) with z | z | z
  · exact br_t z K
  · by_cases y : x < 0
    · exact br_t y K
    · exact br_f y (br_t z K)
  · exact absurd z h
theorem yi_p0 {post : Int32 → Prop} {n : Nat} {x : Int32} {a : Nat → Int32} (hn : n ≤ 8) (h : ¬ ok_P n x) (K : post 0) : wpY_isPoint post (nI n, a) x := by
  rcases pk_ix x (n := n) (by omega) with z | z | z
  · exact br_t z K
  · by_cases y : x < 0
    · exact br_t y K
    · exact br_f y (br_t z K)
  · exact absurd z h
theorem xi_c1 {post : Int32 → Prop} {re fb : Int32} {n u v : Nat} {caps fl cf qu ho hb : Nat → Int32} (hn : n ≤ 8) (hu : u < n) (hv : v < n) (huv : u ≠ v) (K : post 1) : wpX_isCouple post (nI n, re, fb, caps, fl, cf, qu, ho, hb) (nI u) (nI v) := by
  unfold wpX_isCouple
  dsimp only
  exact xi_p1 hn hu (br_f (by decide) (xi_p1 hn hv (br_f (by decide) (br_f (fun z => huv ((nI_eq (by omega) (by omega)).mp z)) K))))
theorem yi_c1 {post : Int32 → Prop} {n u v : Nat} {a : Nat → Int32} (hn : n ≤ 8) (hu : u < n) (hv : v < n) (huv : u ≠ v) (K : post 1) : wpY_isCouple post (nI n, a) (nI u) (nI v) := by
  unfold wpY_isCouple
  dsimp only
  exact yi_p1 hn hu (br_f (by decide) (yi_p1 hn hv (br_f (by decide) (br_f (fun z => huv ((nI_eq (by omega) (by omega)).mp z)) K))))
theorem xi_c0 {post : Int32 → Prop} {re fb : Int32} {n : Nat} {x y : Int32} {caps fl cf qu ho hb : Nat → Int32} (hn : n ≤ 8) (h : ¬ ok_C n x y) (K : post 0) : wpX_isCouple post (nI n, re, fb, caps, fl, cf, qu, ho, hb) x y := by
  unfold wpX_isCouple
  dsimp only
  by_cases a : ok_P n x
  · obtain ⟨u, hu, rfl⟩ := a
    refine xi_p1 hn hu (br_f (by decide) ?_)
    by_cases b : ok_P n y
    · obtain ⟨v, hv, rfl⟩ := b
      refine xi_p1 hn hv (br_f (by decide) (br_t ?_ K))
      by_cases e : u = v
      · rw [e]
      · exact absurd ⟨u, v, hu, hv, e, rfl, rfl⟩ h
    · exact xi_p0 hn b (br_t rfl K)
  · exact xi_p0 hn a (br_t rfl K)
theorem yi_c0 {post : Int32 → Prop} {n : Nat} {x y : Int32} {c : Nat → Int32} (hn : n ≤ 8) (h : ¬ ok_C n x y) (K : post 0) : wpY_isCouple post (nI n, c) x y := by
  unfold wpY_isCouple
  dsimp only
  by_cases a : ok_P n x
  · obtain ⟨u, hu, rfl⟩ := a
    refine yi_p1 hn hu (br_f (by decide) ?_)
    by_cases b : ok_P n y
    · obtain ⟨v, hv, rfl⟩ := b
      refine yi_p1 hn hv (br_f (by decide) (br_t ?_ K))
      by_cases e : u = v
      · rw [e]
      · exact absurd ⟨u, v, hu, hv, e, rfl, rfl⟩ h
    · exact yi_p0 hn b (br_t rfl K)
  · exact yi_p0 hn a (br_t rfl K)
/-! the capacities -/
def rl_C (n : Nat) (a : Nat → Int32) : Prop := n ≤ 8 ∧ (∀ u v, u < 8 → v < 8 → 0 ≤ (a (8 * u + v)).toInt ∧ (a (8 * u + v)).toInt ≤ 50 ∧ a (8 * u + v) = a (8 * v + u)) ∧ ∀ u v, u < 8 → v < 8 → (u = v ∨ n ≤ u ∨ n ≤ v) → a (8 * u + v) = 0
theorem rl_D {n : Nat} {a : Nat → Int32} (h : rl_C n a) : dw_C n (tb_f a) := by
  refine ⟨h.1, fun u v hu hv => ?_⟩
  have h1 := h.1
  obtain ⟨a1, a2, a3⟩ := h.2.1 u v (by omega) (by omega)
  exact ⟨a1, a2, congrArg Int32.toInt a3⟩
/-- both places of a couple -/
def cc_u (a : Nat → Int32) (u v : Nat) (x : Int32) : Nat → Int32 := upd (upd a (8 * u + v) x) (8 * v + u) x
theorem cc_e {a : Nat → Int32} {u v : Nat} {x : Int32} (hu : u < 8) (hv : v < 8) {r s : Nat} (hr : r < 8) (hs : s < 8) : cc_u a u v x (8 * r + s) = if (r = u ∧ s = v) ∨ (r = v ∧ s = u) then x else a (8 * r + s) := by
  unfold cc_u
  by_cases e2 : r = v ∧ s = u
  · rw [if_pos (Or.inr e2), show 8 * r + s = 8 * v + u by omega, pk_us]
  · rw [pk_un (by omega)]
    by_cases e1 : r = u ∧ s = v
    · rw [if_pos (Or.inl e1), show 8 * r + s = 8 * u + v by omega, pk_us]
    · rw [pk_un (by omega), if_neg (by omega)]
theorem cc_far {a : Nat → Int32} {u v : Nat} {x : Int32} (hu : u < 8) (hv : v < 8) {i : Nat} (hi : 64 ≤ i) : cc_u a u v x i = a i := by
  unfold cc_u
  rw [pk_un (by omega), pk_un (by omega)]
theorem cc_C {n : Nat} {a : Nat → Int32} {u v j : Nat} (h : rl_C n a) (hu : u < n) (hv : v < n) (huv : u ≠ v) (hj : j ≤ 50) : rl_C n (cc_u a u v (nI j)) := by
  obtain ⟨hn, h1, h2⟩ := h
  have hj' : (nI j).toInt = (j : Int) := nI_toInt (by omega)
  refine ⟨hn, fun r s hr hs => ?_, fun r s hr hs hz => ?_⟩
  · rw [cc_e (by omega) (by omega) hr hs, cc_e (by omega) (by omega) hs hr]
    have := h1 r s hr hs
    by_cases e : (r = u ∧ s = v) ∨ (r = v ∧ s = u)
    · rw [if_pos e, if_pos (by omega), hj']
      exact ⟨by omega, by omega, rfl⟩
    · rw [if_neg e, if_neg (by omega)]
      exact this
  · rw [cc_e (by omega) (by omega) hr hs, if_neg (by omega)]
    exact h2 r s hr hs hz
theorem xn_1 {post : Int32 → SX → Prop} {re fb : Int32} {n u v j : Nat} {caps fl cf qu ho hb : Nat → Int32} (hn : n ≤ 8) (hu : u < n) (hv : v < n) (huv : u ≠ v) (hj : j ≤ 50) (K : post 1 (nI n, re, 0, cc_u caps u v (nI j), fl, cf, qu, ho, hb)) : wpX_connect post (nI n, re, fb, caps, fl, cf, qu, ho, hb) (nI u) (nI v) (nI j) := by
  unfold wpX_connect
  dsimp only
  refine xi_c1 hn hu hv huv (br_f (by decide) (br_f (nI_pos (by omega)) (br_t (nI_le (b := 50) (by omega) (by decide)) ⟨ix_v (by omega) (by omega), nm_r (e' := upd caps (8 * u + v) (nI j)) (by rw [ix_c (by omega) (by omega), bz_b (by omega)]) ⟨ix_v (by omega) (by omega), nm_r (e' := cc_u caps u v (nI j)) (by rw [ix_c (by omega) (by omega), bz_b (by omega)]; rfl) K⟩⟩)))
theorem yn_1 {post : Int32 → SY → Prop} {n u v j : Nat} {caps : Nat → Int32} (hn : n ≤ 8) (hu : u < n) (hv : v < n) (huv : u ≠ v) (hj : j ≤ 50) (K : post 1 (nI n, cc_u caps u v (nI j))) : wpY_connect post (nI n, caps) (nI u) (nI v) (nI j) := by
  unfold wpY_connect
  dsimp only
  refine yi_c1 hn hu hv huv (br_f (by decide) (br_f (nI_pos (by omega)) (br_t (nI_le (b := 50) (by omega) (by decide)) ⟨ix_v (by omega) (by omega), nm_r (e' := upd caps (8 * u + v) (nI j)) (by rw [ix_c (by omega) (by omega)]) ⟨ix_v (by omega) (by omega), nm_r (e' := cc_u caps u v (nI j)) (by rw [ix_c (by omega) (by omega)]; rfl) K⟩⟩)))
/-! cap -/
/-- the table a while the couples of dn have been capped -/
def ca_R (caps a : Nat → Int32) (t : Int32) (dn : Nat → Nat → Bool) : Prop := (∀ i, 64 ≤ i → a i = caps i) ∧ ∀ x y, x < 8 → y < 8 → a (8 * x + y) = if dn x y = true ∧ t < caps (8 * x + y) then t else caps (8 * x + y)
theorem ca_cg {caps a : Nat → Int32} {t : Int32} {dn dn' : Nat → Nat → Bool} (h : ∀ x y, x < 8 → y < 8 → t < caps (8 * x + y) → dn x y = dn' x y) (R : ca_R caps a t dn) : ca_R caps a t dn' := by
  refine ⟨R.1, fun x y hx hy => ?_⟩
  rw [R.2 x y hx hy]
  by_cases z : t < caps (8 * x + y)
  · rw [h x y hx hy z]
  · rw [if_neg (fun q => z q.2), if_neg (fun q => z q.2)]
theorem ca_yes {n : Nat} {caps a : Nat → Int32} {t : Int32} {dn : Nat → Nat → Bool} {u v : Nat} (hC : rl_C n caps) (hu : u < 8) (hv : v < 8) (h : t < caps (8 * u + v)) (R : ca_R caps a t dn) : ca_R caps (cc_u a u v t) t (fun x y => dn x y || decide ((x = u ∧ y = v) ∨ (x = v ∧ y = u))) := by
  refine ⟨fun i hi => ?_, fun x y hx hy => ?_⟩
  · rw [cc_far hu hv hi]; exact R.1 i hi
  · rw [cc_e hu hv hx hy]
    by_cases e : (x = u ∧ y = v) ∨ (x = v ∧ y = u)
    · have h' : t < caps (8 * x + y) := by
        rcases e with ⟨rfl, rfl⟩ | ⟨rfl, rfl⟩
        · exact h
        · rw [← (hC.2.1 y x hy hx).2.2]; exact h
      have hd : (dn x y || decide ((x = u ∧ y = v) ∨ (x = v ∧ y = u))) = true := by rw [decide_eq_true e]; exact Bool.or_true _
      rw [if_pos e, if_pos ⟨hd, h'⟩]
    · have hd : (dn x y || decide ((x = u ∧ y = v) ∨ (x = v ∧ y = u))) = dn x y := by rw [decide_eq_false e, Bool.or_false]
      rw [if_neg e, R.2 x y hx hy]
      show _ = if (dn x y || decide ((x = u ∧ y = v) ∨ (x = v ∧ y = u))) = true ∧ t < caps (8 * x + y) then t else caps (8 * x + y)
      rw [hd]
theorem ca_no {n : Nat} {caps a : Nat → Int32} {t : Int32} {dn : Nat → Nat → Bool} {u v : Nat} (hC : rl_C n caps) (hu : u < 8) (hv : v < 8) (h : ¬ t < caps (8 * u + v)) (R : ca_R caps a t dn) : ca_R caps a t (fun x y => dn x y || decide ((x = u ∧ y = v) ∨ (x = v ∧ y = u))) := by
  refine ca_cg (fun x y hx hy z => ?_) R
  have e : ¬ ((x = u ∧ y = v) ∨ (x = v ∧ y = u)) := by
    rintro (⟨rfl, rfl⟩ | ⟨rfl, rfl⟩)
    · exact h z
    · rw [← (hC.2.1 y x hy hx).2.2] at z; exact h z
  rw [decide_eq_false e, Bool.or_false]
theorem ca_end {caps a b : Nat → Int32} {t : Int32} (R : ca_R caps a t (fun _ _ => true)) (Q : ca_R caps b t (fun _ _ => true)) : a = b := by
  funext i
  rcases Nat.lt_or_ge i 64 with z | z
  · have h1 := R.2 (i / 8) (i % 8) (by omega) (by omega)
    have h2 := Q.2 (i / 8) (i % 8) (by omega) (by omega)
    rw [show 8 * (i / 8) + i % 8 = i by omega] at h1 h2
    rw [h1, h2]
  · rw [R.1 i z, Q.1 i z]
theorem ca_C {n : Nat} {caps a : Nat → Int32} {j : Nat} (hC : rl_C n caps) (hj : j < 2 ^ 31) (R : ca_R caps a (nI j) (fun _ _ => true)) : rl_C n a := by
  have hj' : (nI j).toInt = (j : Int) := nI_toInt hj
  refine ⟨hC.1, fun u v hu hv => ?_, fun u v hu hv h => ?_⟩
  · obtain ⟨c1, c2, c3⟩ := hC.2.1 u v hu hv
    rw [R.2 u v hu hv, R.2 v u hv hu, ← c3]
    by_cases z : nI j < caps (8 * u + v)
    · rw [if_pos ⟨rfl, z⟩, hj']
      rw [Int32.lt_iff_toInt_lt, hj'] at z
      exact ⟨by omega, by omega, rfl⟩
    · rw [if_neg (fun q => z q.2)]
      exact ⟨c1, c2, rfl⟩
  · have e := hC.2.2 u v hu hv h
    rw [R.2 u v hu hv, e, if_neg (fun q => nI_pos hj q.2)]
/-- above t: a couple of two different points -/
theorem ca_lt {n : Nat} {caps : Nat → Int32} {j : Nat} (hC : rl_C n caps) (hj : j < 2 ^ 31) {x y : Nat} (hx : x < 8) (hy : y < 8) (h : nI j < caps (8 * x + y)) : x ≠ y ∧ x < n ∧ y < n := by
  have := hC.2.2 x y hx hy
  refine ⟨fun e => ?_, ?_, ?_⟩
  · rw [this (Or.inl e)] at h; exact nI_pos hj h
  · rcases Nat.lt_or_ge x n with z | z
    · exact z
    · rw [this (Or.inr (Or.inl z))] at h; exact absurd h (nI_pos hj)
  · rcases Nat.lt_or_ge y n with z | z
    · exact z
    · rw [this (Or.inr (Or.inr z))] at h; exact absurd h (nI_pos hj)
def ca_g (caps : Nat → Int32) (t : Int32) (u v : Nat) : Int := if t < caps (8 * u + v) then 1 else 0
/-- the component goes by the lesser, the reference by the greater point -/
def ca_X (u v x y : Nat) : Bool := decide ((x < y ∧ (x < u ∨ (x = u ∧ y < v))) ∨ (y < x ∧ (y < u ∨ (y = u ∧ x < v))))
def ca_Y (u v x y : Nat) : Bool := decide ((x < y ∧ (y < u ∨ (y = u ∧ x < v))) ∨ (y < x ∧ (x < u ∨ (x = u ∧ y < v))))
def ca_F (fb : Int32) (caps : Nat → Int32) (f : Int32) (a : Nat → Int32) : Prop := f = 0 ∨ (f = fb ∧ a = caps)
theorem xa_23 {post : Int32 → SX → Prop} {J : Int32 → Int32 → Int32 → Int32 → Int32 → (Nat → Int32) → (Nat → Int32) → (Nat → Int32) → (Nat → Int32) → (Nat → Int32) → (Nat → Int32) → Prop} {re fb : Int32} {n u j : Nat} {caps fl cf qu ho hb : Nat → Int32} (hC : rl_C n caps) (hj : j < 2 ^ 31) (hu : u < n) (b : Int)
    (K : ∀ f a, ca_F fb caps f a → ca_R caps a (nI j) (ca_X u n) → J (iz_I (b + zs_S (zt_h (ca_g caps (nI j)) u) n)) (nI (u + 1)) (nI n) re f a fl cf qu ho hb) :
    ∀ d v f a, v + d = n → u < v → ca_F fb caps f a → ca_R caps a (nI j) (ca_X u v) → wX_cap_23 post J (nI j) (nI u) (d + 1) (iz_I (b + zs_S (zt_h (ca_g caps (nI j)) u) v)) (nI v) (nI n) re f a fl cf qu ho hb := by
  have hn := hC.1
  intro d
  induction d with
  | zero =>
    intro v f a hv huv F R
    have : v = n := by omega
    subst this
    exact br_t (Int32.le_refl _) (nm_r (nI_1 u) (K f a F R))
  | succ d ih =>
    intro v f a hv huv F R
    have hnv : ¬ nI n ≤ nI v := nI_ge (by omega) (by omega)
    have ea : a ((8 : Int32) * nI u + nI v).toNatClampNeg = caps (8 * u + v) := by
      rw [ix_c (by omega) (by omega), R.2 u v (by omega) (by omega), if_neg]
      rintro ⟨z, _⟩
      unfold ca_X at z
      rw [decide_eq_true_eq] at z
      omega
    have nx : ∀ x y, (ca_X u v x y || decide ((x = u ∧ y = v) ∨ (x = v ∧ y = u))) = ca_X u (v + 1) x y := by
      intro x y
      unfold ca_X
      rw [← Bool.decide_or]
      apply decide_eq_decide.mpr
      omega
    refine br_f hnv ⟨ix_v (by omega) (by omega), ?_⟩
    by_cases h : nI j < caps (8 * u + v)
    · have hj50 : j ≤ 50 := by
        have c := (hC.2.1 u v (by omega) (by omega)).2.1
        rw [Int32.lt_iff_toInt_lt, nI_toInt hj] at h
        omega
      have R' := ca_cg (fun x y _ _ _ => nx x y) (ca_yes hC (by omega) (by omega) h R)
      have step := ih (v + 1) 0 (cc_u a u v (nI j)) (by omega) (by omega) (Or.inl rfl) R'
      rw [zs_s, zt_1 _ huv, show ca_g caps (nI j) u v = 1 from if_pos h, ← Int.add_assoc] at step
      refine br_t (by rw [ea]; exact h) (xn_1 hn (by omega) (by omega) (by omega) hj50 ?_)
      exact nm_r (iz_1 _) (nm_r (nI_1 v) step)
    · have R' := ca_cg (fun x y _ _ _ => nx x y) (ca_no hC (by omega) (by omega) h R)
      have step := ih (v + 1) f a (by omega) (by omega) F R'
      rw [zs_s, zt_1 _ huv, show ca_g caps (nI j) u v = 0 from if_neg h, Int.add_zero] at step
      exact br_f (by rw [ea]; exact h) (nm_r (nI_1 v) step)
theorem xa_10 {post : Int32 → SX → Prop} {re fb : Int32} {n j : Nat} {caps fl cf qu ho hb : Nat → Int32} (hC : rl_C n caps) (hj : j < 2 ^ 31)
    (K : ∀ f a, ca_F fb caps f a → ca_R caps a (nI j) (fun _ _ => true) → post (iz_I (zs_S (fun u => zs_S (zt_h (ca_g caps (nI j)) u) n) n)) (nI n, re, f, a, fl, cf, qu, ho, hb)) :
    ∀ d u f a, u + d = n → ca_F fb caps f a → ca_R caps a (nI j) (ca_X u (u + 1)) → wX_cap_10 post (nI j) (d + 1) (iz_I (zs_S (fun u => zs_S (zt_h (ca_g caps (nI j)) u) n) u)) (nI u) (nI n) re f a fl cf qu ho hb := by
  have hn := hC.1
  intro d
  induction d with
  | zero =>
    intro u f a hu F R
    have : u = n := by omega
    subst this
    refine br_t (Int32.le_refl _) (K f a F (ca_cg (fun x y hx hy z => ?_) R))
    have := ca_lt hC hj hx hy z
    unfold ca_X
    apply decide_eq_true
    omega
  | succ d ih =>
    intro u f a hu F R
    have hnv : ¬ nI n ≤ nI u := nI_ge (by omega) (by omega)
    have h := xa_23 (post := post) (J := wX_cap_10 post (nI j) (d + 1)) (re := re) (fb := fb) (fl := fl) (cf := cf) (qu := qu) (ho := ho) (hb := hb) hC hj (u := u) (by omega) (zs_S (fun u => zs_S (zt_h (ca_g caps (nI j)) u) n) u) (fun f a F R => ih (u + 1) f a (by omega) F (ca_cg (fun x y hx hy z => by
      have := ca_lt hC hj hx hy z
      unfold ca_X
      apply decide_eq_decide.mpr
      omega) R)) d (u + 1) f a (by omega) (by omega) F R
    rw [zt_0, Int.add_zero] at h
    exact br_f hnv (nm_r (nI_1 u) ⟨d + 1, h⟩)
theorem ya_21 {post : Int32 → SY → Prop} {J : Int32 → Int32 → (Nat → Int32) → Prop} {n u j : Nat} {caps : Nat → Int32} (hC : rl_C n caps) (hj : j < 2 ^ 31) (hu : u < n) (b : Int)
    (K : ∀ a, ca_R caps a (nI j) (ca_Y u u) → J (iz_I (b + zs_S (ca_g caps (nI j) u) u)) (nI (u + 1)) a) :
    ∀ d v a, v + d = u → ca_R caps a (nI j) (ca_Y u v) → wY_cap_21 post J (nI j) (nI u) (nI n) (d + 1) (iz_I (b + zs_S (ca_g caps (nI j) u) v)) (nI v) a := by
  have hn := hC.1
  intro d
  induction d with
  | zero =>
    intro v a hv R
    have : v = u := by omega
    subst this
    exact br_t (Int32.le_refl _) (nm_r (nI_1 _) (K a R))
  | succ d ih =>
    intro v a hv R
    have hnv : ¬ nI u ≤ nI v := nI_ge (by omega) (by omega)
    have ea : a ((8 : Int32) * nI u + nI v).toNatClampNeg = caps (8 * u + v) := by
      rw [ix_c (by omega) (by omega), R.2 u v (by omega) (by omega), if_neg]
      rintro ⟨z, _⟩
      unfold ca_Y at z
      rw [decide_eq_true_eq] at z
      omega
    have nx : ∀ x y, (ca_Y u v x y || decide ((x = u ∧ y = v) ∨ (x = v ∧ y = u))) = ca_Y u (v + 1) x y := by
      intro x y
      unfold ca_Y
      rw [← Bool.decide_or]
      apply decide_eq_decide.mpr
      omega
    refine br_f hnv ⟨ix_v (by omega) (by omega), ?_⟩
    by_cases h : nI j < caps (8 * u + v)
    · have R' := ca_cg (fun x y _ _ _ => nx x y) (ca_yes hC (by omega) (by omega) h R)
      have step := ih (v + 1) (cc_u a u v (nI j)) (by omega) R'
      rw [zs_s, show ca_g caps (nI j) u v = 1 from if_pos h, ← Int.add_assoc] at step
      exact br_f (by rw [ea]; exact Int32.not_le.mpr h) (nm_r (iz_1 _) ⟨ix_v (by omega) (by omega), nm_r (e' := upd a (8 * u + v) (nI j)) (by rw [ix_c (by omega) (by omega)]) ⟨ix_v (by omega) (by omega), nm_r (e' := cc_u a u v (nI j)) (by rw [ix_c (by omega) (by omega)]; rfl) (nm_r (nI_1 v) step)⟩⟩)
    · have R' := ca_cg (fun x y _ _ _ => nx x y) (ca_no hC (by omega) (by omega) h R)
      have step := ih (v + 1) a (by omega) R'
      rw [zs_s, show ca_g caps (nI j) u v = 0 from if_neg h, Int.add_zero] at step
      exact br_t (by rw [ea]; exact Int32.not_lt.mp h) (nm_r (nI_1 v) step)
theorem ya_10 {post : Int32 → SY → Prop} {n j : Nat} {caps : Nat → Int32} (hC : rl_C n caps) (hj : j < 2 ^ 31)
    (K : ∀ a, ca_R caps a (nI j) (fun _ _ => true) → post (iz_I (zs_S (fun u => zs_S (ca_g caps (nI j) u) u) n)) (nI n, a)) :
    ∀ d u a, u + d = n → ca_R caps a (nI j) (ca_Y u 0) → wY_cap_10 post (nI j) (nI n) (d + 1) (iz_I (zs_S (fun u => zs_S (ca_g caps (nI j) u) u) u)) (nI u) a := by
  have hn := hC.1
  intro d
  induction d with
  | zero =>
    intro u a hu R
    have : u = n := by omega
    subst this
    refine br_t (Int32.le_refl _) (K a (ca_cg (fun x y hx hy z => ?_) R))
    have := ca_lt hC hj hx hy z
    unfold ca_Y
    apply decide_eq_true
    omega
  | succ d ih =>
    intro u a hu R
    have hnv : ¬ nI n ≤ nI u := nI_ge (by omega) (by omega)
    have h := ya_21 (post := post) (J := wY_cap_10 post (nI j) (nI n) (d + 1)) hC hj (u := u) (by omega) (zs_S (fun u => zs_S (ca_g caps (nI j) u) u) u) (fun a R => ih (u + 1) a (by omega) (ca_cg (fun x y hx hy z => by
      have := ca_lt hC hj hx hy z
      unfold ca_Y
      apply decide_eq_decide.mpr
      omega) R)) u 0 a (by omega) R
    rw [zs_0, Int.add_zero] at h
    exact br_f hnv ⟨u + 1, h⟩
end
section
/-- one n, one table of capacities; the tree, if it is built, is the tree of that table -/
def i_Rel (k : Nat) (u : SX) (v : SY) : Prop := ∃ (n : Nat) (re fb : Int32) (caps fl cf qu ho hb : Nat → Int32), u = (nI n, re, fb, caps, fl, cf, qu, ho, hb) ∧ v = (nI n, caps) ∧ 2 ≤ n ∧ rl_C n caps ∧ (fb = 0 ∨ (fb = 1 ∧ ∃ p w, xt_T n caps ho hb p w))
theorem i_up {k : Nat} {u : SX} {v : SY} (h : i_Rel k u v) : i_Rel (k + 4) u v := h
theorem rl_0 {n : Nat} (hn : n ≤ 8) : rl_C n (fun _ => 0) := ⟨hn, fun _ _ _ _ => ⟨(by decide : (0 : Int) ≤ (0 : Int32).toInt), (by decide : (0 : Int32).toInt ≤ 50), rfl⟩, fun _ _ _ _ _ => rfl⟩
theorem rl_i {n k : Nat} (h2 : 2 ≤ n) (hn : n ≤ 8) : i_Rel k (nI n, 0, 0, (fun _ => 0), (fun _ => 0), (fun _ => 0), (fun _ => 0), (fun _ => 0), (fun _ => 0)) (nI n, (fun _ => 0)) :=
  ⟨n, 0, 0, _, _, _, _, _, _, rfl, rfl, h2, rl_0 hn, Or.inl rfl⟩
theorem i_vc0 (k0 : Int32) : wpX_init (fun u => wpY_init (fun v => i_Rel 1 u v) k0) k0 := by
  refine br_c (fun h => br_c (fun h' => br_t h (br_t h' ?_)) (fun h' => br_t h (br_f h' (rl_i (n := 8) (by decide) (by decide))))) (fun h => br_f h (rl_i (n := 2) (by decide) (by decide)))
  have h0 : ¬ k0 < 0 := fun z => by
    have := Int32.lt_of_lt_of_le z (by decide : (0 : Int32) ≤ 2)
    exact absurd h (Int32.not_le.mpr this)
  obtain ⟨j, hj, rfl⟩ := nI_of h0
  have a : 2 ≤ j := (nI_leI (a := 2) (by decide) hj).mp h
  have b : j ≤ 8 := (nI_leI (b := 8) hj (by decide)).mp h'
  exact rl_i a b
theorem i_vc_connect {k : Nat} {u : SX} {v : SY} (I : i_Rel k u v) (hk : k + 4 ≤ 2049) (v1 : Int32) (v2 : Int32) (v3 : Int32) : wpX_connect (fun r u' => wpY_connect (fun r' v' => r' = r ∧ i_Rel (k + 4) u' v') v v1 v2 v3) u v1 v2 v3 := by
  obtain ⟨n, re, fb, caps, fl, cf, qu, ho, hb, rfl, rfl, h2, hC, hF⟩ := I
  have hn := hC.1
  have same : i_Rel (k + 4) (nI n, re, fb, caps, fl, cf, qu, ho, hb) (nI n, caps) := ⟨n, re, fb, caps, fl, cf, qu, ho, hb, rfl, rfl, h2, hC, hF⟩
  by_cases a : ok_C n v1 v2
  · obtain ⟨x, y, hx, hy, hxy, rfl, rfl⟩ := a
    by_cases h0 : v3 < 0
    · unfold wpX_connect wpY_connect
      dsimp only
      exact xi_c1 hn hx hy hxy (br_f (by decide) (br_t h0 (yi_c1 hn hx hy hxy (br_f (by decide) (br_t h0 ⟨rfl, same⟩)))))
    · by_cases h5 : v3 ≤ 50
      · obtain ⟨j, hj, rfl⟩ := nI_of2 (M := 50) (n := 50) (by decide) h0 h5
        exact xn_1 hn hx hy hxy hj (yn_1 hn hx hy hxy hj ⟨rfl, n, re, 0, _, fl, cf, qu, ho, hb, rfl, rfl, h2, cc_C hC hx hy hxy hj, Or.inl rfl⟩)
      · unfold wpX_connect wpY_connect
        dsimp only
        exact xi_c1 hn hx hy hxy (br_f (by decide) (br_f h0 (br_f h5 (yi_c1 hn hx hy hxy (br_f (by decide) (br_f h0 (br_f h5 ⟨rfl, same⟩)))))))
  · unfold wpX_connect wpY_connect
    dsimp only
    exact xi_c0 hn a (br_t rfl (yi_c0 hn a (br_t rfl ⟨rfl, same⟩)))
theorem i_vc_capacity {k : Nat} {u : SX} {v : SY} (I : i_Rel k u v) (hk : k + 4 ≤ 2049) (v1 : Int32) (v2 : Int32) : wpX_capacity (fun r => wpY_capacity (fun r' => r' = r ∧ i_Rel (k + 4) u v) v v1 v2) u v1 v2 := by
  have J := i_up I
  obtain ⟨n, re, fb, caps, fl, cf, qu, ho, hb, rfl, rfl, h2, hC, hF⟩ := I
  have hn := hC.1
  unfold wpX_capacity wpY_capacity
  dsimp only
  by_cases a : ok_C n v1 v2
  · obtain ⟨x, y, hx, hy, hxy, rfl, rfl⟩ := a
    exact xi_c1 hn hx hy hxy (br_f (by decide) ⟨ix_v (by omega) (by omega), yi_c1 hn hx hy hxy (br_f (by decide) ⟨ix_v (by omega) (by omega), rfl, J⟩)⟩)
  · exact xi_c0 hn a (br_t rfl (yi_c0 hn a (br_t rfl ⟨rfl, J⟩)))
theorem i_vc_link {k : Nat} {u : SX} {v : SY} (I : i_Rel k u v) (hk : k + 4 ≤ 2049) (v1 : Int32) (v2 : Int32) : wpX_link (fun r u' => wpY_link (fun r' => r' = r ∧ i_Rel (k + 4) u' v) v v1 v2) u v1 v2 := by
  obtain ⟨n, re, fb, caps, fl, cf, qu, ho, hb, rfl, rfl, h2, hC, hF⟩ := I
  have hn := hC.1
  have hD := rl_D hC
  unfold wpX_link wpY_link
  dsimp only
  by_cases a : ok_C n v1 v2
  · obtain ⟨x, y, hx, hy, hxy, rfl, rfl⟩ := a
    refine xi_c1 hn hx hy hxy (br_f (by decide) (xb_b hD h2 hF (fun re fl cf qu ho hb p w T => ?_)))
    refine xk_w hD T hx hy ?_
    exact yi_c1 hn hx hy hxy (br_f (by decide) (yw_lk hD hx hy hxy ⟨rfl, n, re, 1, caps, fl, cf, qu, ho, hb, rfl, rfl, h2, hC, Or.inr ⟨rfl, p, w, T⟩⟩))
  · exact xi_c0 hn a (br_t rfl (yi_c0 hn a (br_t rfl ⟨rfl, n, re, fb, caps, fl, cf, qu, ho, hb, rfl, rfl, h2, hC, hF⟩)))
theorem i_vc_side {k : Nat} {u : SX} {v : SY} (I : i_Rel k u v) (hk : k + 4 ≤ 2049) (v1 : Int32) (v2 : Int32) : wpX_side (fun r u' => wpY_side (fun r' => r' = r ∧ i_Rel (k + 4) u' v) v v1 v2) u v1 v2 := by
  obtain ⟨n, re, fb, caps, fl, cf, qu, ho, hb, rfl, rfl, h2, hC, hF⟩ := I
  have hn := hC.1
  have hD := rl_D hC
  unfold wpX_side wpY_side
  dsimp only
  by_cases a : ok_C n v1 v2
  · obtain ⟨x, y, hx, hy, hxy, rfl, rfl⟩ := a
    refine xi_c1 hn hx hy hxy (br_f (by decide) (xl_l hD hx hy hxy (fun re fl cf qu R => ?_)))
    have hp := yw_p0 n
    have h4 : 2 ^ 2 ≤ 2 ^ n := Nat.pow_le_pow_right (n := 2) (by decide) h2
    have r1 := lm_nn hD x y
    have r2 := lm_bd' hD x y
    refine yi_c1 hn hx hy hxy (br_f (by decide) (yw_lk hD hx hy hxy ⟨(2 ^ n - 2) + 1, sd_24 hD (by omega) hx hy (fun b S => ?_) (2 ^ n - 2) 1 0 (by omega) (by omega) (Or.inl ⟨rfl, fun j j1 j2 => absurd j1 (by omega)⟩)⟩))
    exact ⟨sd_end hD hx hy R.1 R.2.1 R.2.2.1 R.2.2.2.1 R.2.2.2.2 S, n, re, fb, caps, fl, cf, qu, ho, hb, rfl, rfl, h2, hC, hF⟩
  · exact xi_c0 hn a (br_t rfl (yi_c0 hn a (br_t rfl ⟨rfl, n, re, fb, caps, fl, cf, qu, ho, hb, rfl, rfl, h2, hC, hF⟩)))
theorem i_vc_smallest {k : Nat} {u : SX} {v : SY} (I : i_Rel k u v) (hk : k + 4 ≤ 2049) : wpX_smallest (fun r u' => wpY_smallest (fun r' => r' = r ∧ i_Rel (k + 4) u' v) v) u := by
  obtain ⟨n, re, fb, caps, fl, cf, qu, ho, hb, rfl, rfl, h2, hC, hF⟩ := I
  have hn := hC.1
  have hD := rl_D hC
  unfold wpX_smallest
  dsimp only
  refine xb_b hD h2 hF (fun re fl cf qu ho hb p w T => ?_)
  refine nm_r (e' := iz_I (w 1)) (T.2.1 1 (by omega)) ⟨(n - 2) + 1, xm_13 hD T (fun m m1 m2 => ?_) (n - 2) 2 (w 1) (by omega) (by omega) ⟨1, by omega, by omega, rfl⟩ (fun i i1 i2 => ?_)⟩
  · refine yw_sm hD h2 (fun m' I => ⟨congrArg iz_I (sm_eq hD h2 T.2.2 m1 m2 I), n, re, 1, caps, fl, cf, qu, ho, hb, rfl, rfl, h2, hC, Or.inr ⟨rfl, p, w, T⟩⟩)
  · have : i = 1 := by omega
    rw [this]
    exact Int.le_refl _
theorem i_vc_couples {k : Nat} {u : SX} {v : SY} (I : i_Rel k u v) (hk : k + 4 ≤ 2049) (v1 : Int32) : wpX_couples (fun r u' => wpY_couples (fun r' => r' = r ∧ i_Rel (k + 4) u' v) v v1) u v1 := by
  obtain ⟨n, re, fb, caps, fl, cf, qu, ho, hb, rfl, rfl, h2, hC, hF⟩ := I
  have hn := hC.1
  have hD := rl_D hC
  unfold wpX_couples wpY_couples
  dsimp only
  refine xb_b hD h2 hF (fun re fl cf qu ho hb p w T => ?_)
  refine ⟨n + 1, xc_8 hD T ⟨n + 1, yc_4 hD ⟨?_, n, re, 1, caps, fl, cf, qu, ho, hb, rfl, rfl, h2, hC, Or.inr ⟨rfl, p, w, T⟩⟩ n 0 (by omega)⟩ n 0 (by omega)⟩
  refine congrArg iz_I (zs_tri _ (fun x y _ _ => ?_))
  unfold cp_g
  rw [lm_sy hD]
theorem i_vc_groups {k : Nat} {u : SX} {v : SY} (I : i_Rel k u v) (hk : k + 4 ≤ 2049) (v1 : Int32) : wpX_groups (fun r u' => wpY_groups (fun r' => r' = r ∧ i_Rel (k + 4) u' v) v v1) u v1 := by
  obtain ⟨n, re, fb, caps, fl, cf, qu, ho, hb, rfl, rfl, h2, hC, hF⟩ := I
  have hn := hC.1
  have hD := rl_D hC
  unfold wpX_groups wpY_groups
  dsimp only
  refine xb_b hD h2 hF (fun re fl cf qu ho hb p w T => ?_)
  exact ⟨(n - 1) + 1, xg_8 hn T ⟨n + 1, yg_4 hD T.2.2 ⟨rfl, n, re, 1, caps, fl, cf, qu, ho, hb, rfl, rfl, h2, hC, Or.inr ⟨rfl, p, w, T⟩⟩ n 0 (by omega)⟩ (n - 1) 1 (by omega) (by omega)⟩
theorem i_vc_group {k : Nat} {u : SX} {v : SY} (I : i_Rel k u v) (hk : k + 4 ≤ 2049) (v1 : Int32) (v2 : Int32) : wpX_group (fun r u' => wpY_group (fun r' => r' = r ∧ i_Rel (k + 4) u' v) v v1 v2) u v1 v2 := by
  obtain ⟨n, re, fb, caps, fl, cf, qu, ho, hb, rfl, rfl, h2, hC, hF⟩ := I
  have hn := hC.1
  have hD := rl_D hC
  unfold wpX_group wpY_group
  dsimp only
  by_cases a : ok_P n v1
  · obtain ⟨x, hx, rfl⟩ := a
    refine xi_p1 hn hx (br_f (by decide) (xb_b hD h2 hF (fun re fl cf qu ho hb p w T => ?_)))
    have hb1 : ∀ i, bt ((1 : Int32) <<< (nI x &&& 31)) i = decide (i = x) := fun i => bz_s (by omega) i
    refine nm_e ⟨8 + 1, go_21 (u := x) (G := gr_B n caps x v2 n) hn h2 T (gr_cl hD T.2.2 hx) (fun X x1 x2 x3 => ?_) 8 0 _ (by omega) (by rw [hb1]; simp) (fun i hi => ?_) (Or.inl (by rw [cn_one hx hb1]; omega))⟩
    · refine yi_p1 hn hx (br_f (by decide) (gr_o hD hx (fun G hG => ⟨?_, n, re, 1, caps, fl, cf, qu, ho, hb, rfl, rfl, h2, hC, Or.inr ⟨rfl, p, w, T⟩⟩)))
      apply b_ext
      intro i _
      rw [hG, gr_end hD T.2.2 hx x1 x2 x3]
    · rw [hb1] at hi
      unfold gr_B
      rw [hi]
      rfl
  · exact xi_p0 hn a (br_t rfl (yi_p0 hn a (br_t rfl ⟨rfl, n, re, fb, caps, fl, cf, qu, ho, hb, rfl, rfl, h2, hC, hF⟩)))
theorem i_vc_weight {k : Nat} {u : SX} {v : SY} (I : i_Rel k u v) (hk : k + 4 ≤ 2049) (v1 : Int32) : wpX_weight (fun r => wpY_weight (fun r' => r' = r ∧ i_Rel (k + 4) u v) v v1) u v1 := by
  have J := i_up I
  obtain ⟨n, re, fb, caps, fl, cf, qu, ho, hb, rfl, rfl, h2, hC, hF⟩ := I
  have hn := hC.1
  unfold wpX_weight wpY_weight
  dsimp only
  refine br_c (fun h => br_t h ⟨rfl, J⟩) (fun h => br_c (fun h' => ⟨n + 1, xv_22 hn (br_f h (yw_all hn (br_f ?_ (yw_w hn ⟨rfl, J⟩)))) n 0 (by omega)⟩) (fun h' => br_f h (yw_all hn (br_t ?_ ⟨rfl, J⟩))))
  · rw [bz_all n (by omega)] at h'
    exact Int32.not_le.mpr h'
  · rw [bz_all n (by omega)] at h'
    exact Int32.not_lt.mp h'
theorem i_vc_total {k : Nat} {u : SX} {v : SY} (I : i_Rel k u v) (hk : k + 4 ≤ 2049) : wpX_total (fun r u' => wpY_total (fun r' => r' = r ∧ i_Rel (k + 4) u' v) v) u := by
  obtain ⟨n, re, fb, caps, fl, cf, qu, ho, hb, rfl, rfl, h2, hC, hF⟩ := I
  have hn := hC.1
  have hD := rl_D hC
  unfold wpX_total wpY_total
  dsimp only
  refine xb_b hD h2 hF (fun re fl cf qu ho hb p w T => ?_)
  refine ⟨n + 1, xo_8 hD T ⟨n + 1, yo_4 hD ⟨?_, n, re, 1, caps, fl, cf, qu, ho, hb, rfl, rfl, h2, hC, Or.inr ⟨rfl, p, w, T⟩⟩ n 0 (by omega)⟩ n 0 (by omega)⟩
  exact congrArg iz_I (zs_tri _ (fun x y _ _ => lm_sy hD x y))
theorem i_vc_cap {k : Nat} {u : SX} {v : SY} (I : i_Rel k u v) (hk : k + 4 ≤ 2049) (v1 : Int32) : wpX_cap (fun r u' => wpY_cap (fun r' v' => r' = r ∧ i_Rel (k + 4) u' v') v v1) u v1 := by
  obtain ⟨n, re, fb, caps, fl, cf, qu, ho, hb, rfl, rfl, h2, hC, hF⟩ := I
  have hn := hC.1
  unfold wpX_cap wpY_cap
  dsimp only
  refine br_c (fun h => ?_) (fun h => br_f h ⟨rfl, n, re, fb, caps, fl, cf, qu, ho, hb, rfl, rfl, h2, hC, hF⟩)
  obtain ⟨j, hj, rfl⟩ := nI_of (x := v1) (Int32.not_lt.mpr h)
  have R0 : ∀ dn : Nat → Nat → Bool, (∀ x y, dn x y = false) → ca_R caps caps (nI j) dn := fun dn hd => ⟨fun _ _ => rfl, fun x y _ _ => by rw [if_neg (fun z => by rw [hd] at z; cases z.1)]⟩
  refine ⟨n + 1, xa_10 (fb := fb) hC hj (fun f a F R => br_t h ⟨n + 1, ya_10 hC hj (fun b Q => ?_) n 0 caps (by omega) (R0 _ (fun x y => decide_eq_false (by omega)))⟩) n 0 fb caps (by omega) (Or.inr ⟨rfl, rfl⟩) (R0 _ (fun x y => decide_eq_false (by omega)))⟩
  have e := ca_end R Q
  subst e
  refine ⟨congrArg iz_I (zs_tri _ (fun x y hx hy => ?_)), n, re, f, a, fl, cf, qu, ho, hb, rfl, rfl, h2, ca_C hC hj R, ?_⟩
  · unfold ca_g
    rw [(hC.2.1 x y (by omega) (by omega)).2.2]
  · rcases F with z | ⟨z, y⟩
    · exact Or.inl z
    · rw [z, y]; exact hF
end
