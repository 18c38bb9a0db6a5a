section
/-! ints by their value -/
theorem ib_bm {z : Int} (h1 : -2147483648 ≤ z) (h2 : z < 2147483648) : z.bmod (2 ^ 32) = z := Int.bmod_eq_of_le (by omega) (by omega)
theorem ib_add {a b : Int32} (h1 : -2147483648 ≤ a.toInt + b.toInt) (h2 : a.toInt + b.toInt < 2147483648) : (a + b).toInt = a.toInt + b.toInt := by
  rw [Int32.toInt_add]
  exact ib_bm h1 h2
theorem ib_sub {a b : Int32} (h1 : -2147483648 ≤ a.toInt - b.toInt) (h2 : a.toInt - b.toInt < 2147483648) : (a - b).toInt = a.toInt - b.toInt := by
  rw [Int32.toInt_sub]
  exact ib_bm h1 h2
theorem ib_mul {a b : Int32} (h1 : -2147483648 ≤ a.toInt * b.toInt) (h2 : a.toInt * b.toInt < 2147483648) : (a * b).toInt = a.toInt * b.toInt := by
  rw [Int32.toInt_mul]
  exact ib_bm h1 h2
theorem ib_neg {a : Int32} (h1 : -2147483648 ≤ -a.toInt) (h2 : -a.toInt < 2147483648) : (-a).toInt = -a.toInt := by
  rw [Int32.toInt_neg]
  exact ib_bm h1 h2
theorem ib_lt {a b : Int32} : a < b ↔ a.toInt < b.toInt := Int32.lt_iff_toInt_lt
theorem ib_le {a b : Int32} : a ≤ b ↔ a.toInt ≤ b.toInt := Int32.le_iff_toInt_le
theorem ib_eq {a b : Int32} : a = b ↔ a.toInt = b.toInt := Int32.toInt_inj.symm
theorem ib_z0 : (0 : Int32).toInt = 0 := by decide
theorem ib_z1 : (1 : Int32).toInt = 1 := by decide
theorem ib_le0 {a : Int32} : a ≤ 0 ↔ a.toInt ≤ 0 := by rw [ib_le, ib_z0]
theorem ib_eq0 {a : Int32} : a = 0 ↔ a.toInt = 0 := by rw [ib_eq, ib_z0]
theorem ib_10 : ¬ (1 : Int32) = 0 := by decide
theorem ib_ix (i v : Nat) : nI i * 3 + nI v = nI (3 * i + v) := by
  show nI i * nI 3 + nI v = _
  rw [pk_mul, nI_add, Nat.mul_comm]
/-! terms -/
def ib_mn (f lo hi : Int) : Int := if f ≤ 0 then f * hi else f * lo
def ib_mx (f lo hi : Int) : Int := if f ≤ 0 then f * lo else f * hi
theorem ib_mb {a b : Int} (h1 : -5 ≤ a) (h2 : a ≤ 5) (h3 : -200 ≤ b) (h4 : b ≤ 200) : -1000 ≤ a * b ∧ a * b ≤ 1000 := by
  have h : a = -5 ∨ a = -4 ∨ a = -3 ∨ a = -2 ∨ a = -1 ∨ a = 0 ∨ a = 1 ∨ a = 2 ∨ a = 3 ∨ a = 4 ∨ a = 5 := by omega
  rcases h with h | h | h | h | h | h | h | h | h | h | h <;> subst h <;> omega
theorem ib_mb8 {a b : Int} (h1 : -5 ≤ a) (h2 : a ≤ 5) (h3 : -8 ≤ b) (h4 : b ≤ 8) : -40 ≤ a * b ∧ a * b ≤ 40 := by
  have h : a = -5 ∨ a = -4 ∨ a = -3 ∨ a = -2 ∨ a = -1 ∨ a = 0 ∨ a = 1 ∨ a = 2 ∨ a = 3 ∨ a = 4 ∨ a = 5 := by omega
  rcases h with h | h | h | h | h | h | h | h | h | h | h <;> subst h <;> omega
theorem ib_mnb {f lo hi : Int} (h1 : -5 ≤ f) (h2 : f ≤ 5) (h3 : -200 ≤ lo) (h4 : lo ≤ 200) (h5 : -200 ≤ hi) (h6 : hi ≤ 200) : -1000 ≤ ib_mn f lo hi ∧ ib_mn f lo hi ≤ 1000 := by
  unfold ib_mn
  split
  · exact ib_mb h1 h2 h5 h6
  · exact ib_mb h1 h2 h3 h4
theorem ib_mxb {f lo hi : Int} (h1 : -5 ≤ f) (h2 : f ≤ 5) (h3 : -200 ≤ lo) (h4 : lo ≤ 200) (h5 : -200 ≤ hi) (h6 : hi ≤ 200) : -1000 ≤ ib_mx f lo hi ∧ ib_mx f lo hi ≤ 1000 := by
  unfold ib_mx
  split
  · exact ib_mb h1 h2 h3 h4
  · exact ib_mb h1 h2 h5 h6
theorem ib_mnb8 {f lo hi : Int} (h1 : -5 ≤ f) (h2 : f ≤ 5) (h3 : -8 ≤ lo) (h4 : lo ≤ 8) (h5 : -8 ≤ hi) (h6 : hi ≤ 8) : -40 ≤ ib_mn f lo hi ∧ ib_mn f lo hi ≤ 40 := by
  unfold ib_mn
  split
  · exact ib_mb8 h1 h2 h5 h6
  · exact ib_mb8 h1 h2 h3 h4
theorem ib_tl {f lo hi x : Int} (h1 : lo ≤ x) (h2 : x ≤ hi) : ib_mn f lo hi ≤ f * x ∧ f * x ≤ ib_mx f lo hi := by
  unfold ib_mn ib_mx
  by_cases h : f ≤ 0
  · rw [if_pos h, if_pos h]
    have g1 := Int.mul_le_mul_of_nonneg_left h1 (show 0 ≤ -f by omega)
    have g2 := Int.mul_le_mul_of_nonneg_left h2 (show 0 ≤ -f by omega)
    rw [Int.neg_mul, Int.neg_mul] at g1 g2
    omega
  · rw [if_neg h, if_neg h]
    have g1 := Int.mul_le_mul_of_nonneg_left h1 (show 0 ≤ f by omega)
    have g2 := Int.mul_le_mul_of_nonneg_left h2 (show 0 ≤ f by omega)
    omega
theorem ib_mn1 {f x : Int} : ib_mn f x x = f * x := by
  unfold ib_mn
  split <;> rfl
theorem ib_mx1 {f x : Int} : ib_mx f x x = f * x := by
  unfold ib_mx
  split <;> rfl
theorem ib_td {x y : Int} (h1 : 1 ≤ y) (h2 : y ≤ 5) (hx1 : -10000 ≤ x) (hx2 : x ≤ 10000) :
    (x.tdiv y * y ≤ x → x < (x.tdiv y + 1) * y) ∧ (¬ x.tdiv y * y ≤ x → (x.tdiv y - 1) * y ≤ x ∧ x < x.tdiv y * y) ∧ -10000 ≤ x.tdiv y ∧ x.tdiv y ≤ 10000 ∧ -50000 ≤ x.tdiv y * y ∧ x.tdiv y * y ≤ 50000 := by
  have hy : y = 1 ∨ y = 2 ∨ y = 3 ∨ y = 4 ∨ y = 5 := by omega
  by_cases h0 : 0 ≤ x
  · rw [Int.tdiv_eq_ediv_of_nonneg h0]
    rcases hy with h | h | h | h | h <;> subst h <;> omega
  · have e : x.tdiv y = -((-x) / y) := by
      rw [← Int.tdiv_eq_ediv_of_nonneg (show 0 ≤ -x by omega), Int.neg_tdiv, Int.neg_neg]
    rw [e]
    rcases hy with h | h | h | h | h <;> subst h <;> omega
theorem ib_q {f x r m : Int} (h : 0 < f) (h1 : f * x ≤ m) (h2 : m < (r + 1) * f) : x ≤ r := by
  by_cases g : r < x
  · have k := Int.mul_le_mul_of_nonneg_left (show r + 1 ≤ x by omega) (show 0 ≤ f by omega)
    rw [Int.mul_comm (r + 1) f] at h2
    omega
  · omega
/-! sums -/
def ib_su : Nat → (Nat → Nat) → Nat
  | 0, _ => 0
  | n + 1, f => ib_su n f + f n
theorem ib_su_c {n : Nat} {f g : Nat → Nat} (h : ∀ i, i < n → f i = g i) : ib_su n f = ib_su n g := by
  induction n with
  | zero => rfl
  | succ n ih =>
    show ib_su n f + f n = ib_su n g + g n
    rw [ih (fun i hi => h i (by omega)), h n (by omega)]
theorem ib_su_a (n : Nat) (f g : Nat → Nat) : ib_su n (fun i => f i + g i) = ib_su n f + ib_su n g := by
  induction n with
  | zero => rfl
  | succ n ih =>
    show ib_su n (fun i => f i + g i) + (f n + g n) = ib_su n f + f n + (ib_su n g + g n)
    rw [ih]
    omega
theorem ib_su_m {n : Nat} {f g : Nat → Nat} (h : ∀ i, i < n → f i ≤ g i) : ib_su n f ≤ ib_su n g := by
  induction n with
  | zero => exact Nat.le_refl _
  | succ n ih =>
    show ib_su n f + f n ≤ ib_su n g + g n
    have h1 := ih (fun i hi => h i (by omega))
    have h2 := h n (by omega)
    omega
theorem ib_su_k (n c : Nat) (f : Nat → Nat) : ib_su n (fun i => c * f i) = c * ib_su n f := by
  induction n with
  | zero => rfl
  | succ n ih =>
    show ib_su n (fun i => c * f i) + c * f n = c * (ib_su n f + f n)
    rw [ih, Nat.mul_add]
theorem ib_su_j (n c : Nat) (f : Nat → Nat) : ib_su n (fun i => f i * c) = ib_su n f * c := by
  induction n with
  | zero => exact (Nat.zero_mul c).symm
  | succ n ih =>
    show ib_su n (fun i => f i * c) + f n * c = (ib_su n f + f n) * c
    rw [ih, Nat.add_mul]
theorem ib_su_le {n c : Nat} {f : Nat → Nat} (h : ∀ i, i < n → f i ≤ c) : ib_su n f ≤ n * c := by
  induction n with
  | zero => exact Nat.zero_le _
  | succ n ih =>
    show ib_su n f + f n ≤ (n + 1) * c
    have h1 := ih (fun i hi => h i (by omega))
    have h2 := h n (by omega)
    rw [Nat.add_mul, Nat.one_mul]
    omega
theorem ib_su_0 {n : Nat} {f : Nat → Nat} (h : ∀ i, i < n → f i = 0) : ib_su n f = 0 := by
  have := ib_su_le (c := 0) (fun i hi => Nat.le_of_eq (h i hi))
  omega
/-! one or nothing -/
noncomputable def ib_d (p : Prop) : Nat := @ite Nat p (Classical.propDecidable p) 1 0
theorem ib_d1 {p : Prop} (h : p) : ib_d p = 1 := by
  unfold ib_d
  exact if_pos h
theorem ib_d0 {p : Prop} (h : ¬ p) : ib_d p = 0 := by
  unfold ib_d
  exact if_neg h
theorem ib_dc {p q : Prop} (h : p ↔ q) : ib_d p = ib_d q := by rw [propext h]
theorem ib_dd {p : Prop} [Decidable p] : ib_d p = if p then 1 else 0 := by
  by_cases h : p
  · rw [ib_d1 h, if_pos h]
  · rw [ib_d0 h, if_neg h]
theorem ib_dle {p : Prop} : ib_d p ≤ 1 := by
  by_cases h : p
  · rw [ib_d1 h]
    exact Nat.le_refl _
  · rw [ib_d0 h]
    exact Nat.zero_le _
theorem ib_dm {p q : Prop} (h : p → q) : ib_d p ≤ ib_d q := by
  by_cases g : p
  · rw [ib_d1 g, ib_d1 (h g)]
    exact Nat.le_refl _
  · rw [ib_d0 g]
    exact Nat.zero_le _
theorem ib_da {p q : Prop} : ib_d (p ∧ q) = ib_d p * ib_d q := by
  by_cases g : p
  · by_cases h : q
    · rw [ib_d1 g, ib_d1 h, ib_d1 ⟨g, h⟩]
    · rw [ib_d0 h, ib_d0 (fun z => h z.2), Nat.mul_zero]
  · rw [ib_d0 g, ib_d0 (fun z => g z.1), Nat.zero_mul]
theorem ib_do {p q r : Prop} (h : p ↔ q ∨ r) (hd : ¬ (q ∧ r)) : ib_d p = ib_d q + ib_d r := by
  by_cases g : q
  · have k : ¬ r := fun z => hd ⟨g, z⟩
    rw [ib_d1 g, ib_d0 k, ib_d1 (h.mpr (Or.inl g))]
  · by_cases k : r
    · rw [ib_d0 g, ib_d1 k, ib_d1 (h.mpr (Or.inr k))]
    · rw [ib_d0 g, ib_d0 k, ib_d0 (fun z => (h.mp z).elim g k)]
/-! points of the cube, and how many there are -/
def ib_pt (x y z : Int) : Nat → Int := fun k => if k = 0 then x else if k = 1 then y else z
def ib_U (x : Nat → Int) : Prop := ∀ k, k < 3 → -8 ≤ x k ∧ x k ≤ 8
theorem ib_3 {P : Nat → Prop} (h0 : P 0) (h1 : P 1) (h2 : P 2) : ∀ k, k < 3 → P k := by
  intro k hk
  have h : k = 0 ∨ k = 1 ∨ k = 2 := by omega
  rcases h with rfl | rfl | rfl
  · exact h0
  · exact h1
  · exact h2
theorem ib_pU {i j k : Nat} (hi : i < 17) (hj : j < 17) (hk : k < 17) : ib_U (ib_pt ((i : Int) - 8) ((j : Int) - 8) ((k : Int) - 8)) :=
  ib_3 (P := fun v => -8 ≤ ib_pt ((i : Int) - 8) ((j : Int) - 8) ((k : Int) - 8) v ∧ ib_pt ((i : Int) - 8) ((j : Int) - 8) ((k : Int) - 8) v ≤ 8)
    (show -8 ≤ (i : Int) - 8 ∧ (i : Int) - 8 ≤ 8 by omega) (show -8 ≤ (j : Int) - 8 ∧ (j : Int) - 8 ≤ 8 by omega) (show -8 ≤ (k : Int) - 8 ∧ (k : Int) - 8 ≤ 8 by omega)
noncomputable def ib_cn (P : (Nat → Int) → Prop) : Nat := ib_su 17 (fun i => ib_su 17 (fun j => ib_su 17 (fun k => ib_d (P (ib_pt ((i : Int) - 8) ((j : Int) - 8) ((k : Int) - 8))))))
theorem ib_cn_c {P Q : (Nat → Int) → Prop} (h : ∀ x, ib_U x → (P x ↔ Q x)) : ib_cn P = ib_cn Q :=
  ib_su_c (fun i hi => ib_su_c (fun j hj => ib_su_c (fun k hk => ib_dc (h _ (ib_pU hi hj hk)))))
theorem ib_cn_0 {P : (Nat → Int) → Prop} (h : ∀ x, ib_U x → ¬ P x) : ib_cn P = 0 :=
  ib_su_0 (fun i hi => ib_su_0 (fun j hj => ib_su_0 (fun k hk => ib_d0 (h _ (ib_pU hi hj hk)))))
theorem ib_cn_m {P Q : (Nat → Int) → Prop} (h : ∀ x, P x → Q x) : ib_cn P ≤ ib_cn Q :=
  ib_su_m (fun i hi => ib_su_m (fun j hj => ib_su_m (fun k hk => ib_dm (h _))))
theorem ib_cn_le {P : (Nat → Int) → Prop} : ib_cn P ≤ 4913 :=
  ib_su_le (n := 17) (c := 289) (fun i hi => ib_su_le (n := 17) (c := 17) (fun j hj => ib_su_le (n := 17) (c := 1) (fun k hk => ib_dle)))
theorem ib_cn_a {P Q R : (Nat → Int) → Prop} (h : ∀ x, P x ↔ Q x ∨ R x) (hd : ∀ x, ¬ (Q x ∧ R x)) : ib_cn P = ib_cn Q + ib_cn R := by
  unfold ib_cn
  rw [← ib_su_a]
  refine ib_su_c (fun i hi => ?_)
  rw [← ib_su_a]
  refine ib_su_c (fun j hj => ?_)
  rw [← ib_su_a]
  exact ib_su_c (fun k hk => ib_do (h _) (hd _))
/-! boxes -/
def ib_in (b c : Nat → Int32) (x : Nat → Int) : Prop := ∀ k, k < 3 → (b k).toInt ≤ x k ∧ x k ≤ (c k).toInt
/-- a box within the cube that isn't empty -/
def ib_B (b c : Nat → Int32) : Prop := ∀ k, k < 3 → -8 ≤ (b k).toInt ∧ (b k).toInt ≤ (c k).toInt ∧ (c k).toInt ≤ 8
theorem ib_v1 : ∀ a, a < 17 → ∀ b, b < 17 → a ≤ b → ib_su 17 (fun i => if a ≤ i ∧ i ≤ b then 1 else 0) = b + 1 - a := by decide +kernel
theorem ib_v {a b : Int} (h1 : -8 ≤ a) (h2 : a ≤ b) (h3 : b ≤ 8) : ib_su 17 (fun i => ib_d (a ≤ (i : Int) - 8 ∧ (i : Int) - 8 ≤ b)) = (b - a + 1).toNat := by
  have ha : ∃ m : Nat, a = (m : Int) - 8 := ⟨(a + 8).toNat, by omega⟩
  have hb : ∃ m : Nat, b = (m : Int) - 8 := ⟨(b + 8).toNat, by omega⟩
  obtain ⟨m, rfl⟩ := ha
  obtain ⟨n, rfl⟩ := hb
  have e := ib_v1 m (by omega) n (by omega) (by omega)
  rw [show ((n : Int) - 8 - ((m : Int) - 8) + 1).toNat = n + 1 - m by omega, ← e]
  refine ib_su_c (fun i hi => ?_)
  rw [ib_dc (q := m ≤ i ∧ i ≤ n) (by omega)]
  exact ib_dd
theorem ib_in3 {b c : Nat → Int32} {x y z : Int} : ib_in b c (ib_pt x y z) ↔ ((b 0).toInt ≤ x ∧ x ≤ (c 0).toInt) ∧ ((b 1).toInt ≤ y ∧ y ≤ (c 1).toInt) ∧ ((b 2).toInt ≤ z ∧ z ≤ (c 2).toInt) :=
  ⟨fun h => ⟨h 0 (by omega), h 1 (by omega), h 2 (by omega)⟩, fun h => ib_3 (P := fun k => (b k).toInt ≤ ib_pt x y z k ∧ ib_pt x y z k ≤ (c k).toInt) h.1 h.2.1 h.2.2⟩
noncomputable def ib_vol (b c : Nat → Int32) : Nat := ib_cn (ib_in b c)
theorem ib_vol_eq {b c : Nat → Int32} (h : ib_B b c) : ib_vol b c = ((c 0).toInt - (b 0).toInt + 1).toNat * (((c 1).toInt - (b 1).toInt + 1).toNat * ((c 2).toInt - (b 2).toInt + 1).toNat) := by
  have h0 := h 0 (by omega)
  have h1 := h 1 (by omega)
  have h2 := h 2 (by omega)
  rw [← ib_v h0.1 h0.2.1 h0.2.2, ← ib_v h1.1 h1.2.1 h1.2.2, ← ib_v h2.1 h2.2.1 h2.2.2, ← ib_su_j]
  refine ib_su_c (fun i hi => ?_)
  rw [← ib_su_j, ← ib_su_k]
  refine ib_su_c (fun j hj => ?_)
  rw [← ib_su_k, ← ib_su_k]
  refine ib_su_c (fun k hk => ?_)
  exact (ib_dc ib_in3).trans (ib_da.trans (congrArg _ ib_da))
theorem ib_vol_1 {b c : Nat → Int32} (h : ib_B b c) : 1 ≤ ib_vol b c := by
  have h0 := h 0 (by omega)
  have h1 := h 1 (by omega)
  have h2 := h 2 (by omega)
  rw [ib_vol_eq h]
  exact Nat.mul_pos (by omega) (Nat.mul_pos (by omega) (by omega))
/-! how often a range can be halved -/
def ib_lg (n : Int) : Nat := if n ≤ 1 then 0 else if n ≤ 2 then 1 else if n ≤ 4 then 2 else if n ≤ 8 then 3 else if n ≤ 16 then 4 else 5
theorem ib_lg_m {n m : Int} (h : n ≤ m) : ib_lg n ≤ ib_lg m := by
  unfold ib_lg
  repeat' split
  all_goals omega
theorem ib_lg_5 (n : Int) : ib_lg n ≤ 5 := by
  unfold ib_lg
  repeat' split
  all_goals omega
theorem ib_lg_h {n m : Int} (h2 : 2 ≤ n) (h3 : n ≤ 17) (h : 2 * m ≤ n + 1) : ib_lg m + 1 ≤ ib_lg n := by
  unfold ib_lg
  repeat' split
  all_goals omega
def ib_hb (b c : Nat → Int32) : Nat := ib_lg ((c 0).toInt - (b 0).toInt + 1) + ib_lg ((c 1).toInt - (b 1).toInt + 1) + ib_lg ((c 2).toInt - (b 2).toInt + 1)
theorem ib_hb_15 (b c : Nat → Int32) : ib_hb b c ≤ 15 := by
  have h0 := ib_lg_5 ((c 0).toInt - (b 0).toInt + 1)
  have h1 := ib_lg_5 ((c 1).toInt - (b 1).toInt + 1)
  have h2 := ib_lg_5 ((c 2).toInt - (b 2).toInt + 1)
  unfold ib_hb
  omega
end
section
section
variable {l ac d : Int32} {a1 a2 a3 a4 a5 a6 a7 a8 a9 a10 a11 : Nat → Int32}
/-- factors and bounds are small -/
def ib_C (a3 a4 : Nat → Int32) : Prop := (∀ j, j < 24 → -5 ≤ (a3 j).toInt ∧ (a3 j).toInt ≤ 5) ∧ (∀ j, j < 8 → -100 ≤ (a4 j).toInt ∧ (a4 j).toInt ≤ 100)
/-- the box at hand: its numbers are small -/
def ib_W (b c : Nat → Int32) : Prop := ∀ k, k < 3 → -199 ≤ (b k).toInt ∧ (b k).toInt ≤ 199 ∧ -199 ≤ (c k).toInt ∧ (c k).toInt ≤ 8
/-- it isn't empty -/
def ib_E (b c : Nat → Int32) : Prop := (b 0).toInt ≤ (c 0).toInt ∧ (b 1).toInt ≤ (c 1).toInt ∧ (b 2).toInt ≤ (c 2).toInt
/-- a limit holds at a point -/
def ib_L (a3 a4 : Nat → Int32) (i : Nat) (x : Nat → Int) : Prop := (a3 (3 * i + 0)).toInt * x 0 + (a3 (3 * i + 1)).toInt * x 1 + (a3 (3 * i + 2)).toInt * x 2 ≤ (a4 i).toInt
def ib_act (ac : Int32) (i : Nat) : Prop := ((ac >>> (nI i &&& 31)) &&& 1) = 1
/-- all limits of a set hold -/
def ib_S (a3 a4 : Nat → Int32) (ac : Int32) (x : Nat → Int) : Prop := ∀ i, i < 8 → ib_act ac i → ib_L a3 a4 i x
def ib_ls (a3 b c : Nat → Int32) (i : Nat) : Int := ib_mn (a3 (3 * i + 0)).toInt (b 0).toInt (c 0).toInt + ib_mn (a3 (3 * i + 1)).toInt (b 1).toInt (c 1).toInt + ib_mn (a3 (3 * i + 2)).toInt (b 2).toInt (c 2).toInt
def ib_gs (a3 b c : Nat → Int32) (i : Nat) : Int := ib_mx (a3 (3 * i + 0)).toInt (b 0).toInt (c 0).toInt + ib_mx (a3 (3 * i + 1)).toInt (b 1).toInt (c 1).toInt + ib_mx (a3 (3 * i + 2)).toInt (b 2).toInt (c 2).toInt
theorem ib_leastTerm {post : Int32 → Prop} {i v : Nat} (hi : i < 8) (hv : v < 3) (hc : ib_C a3 a4) (hw : ib_W a9 a10)
    (H : ∀ r : Int32, r.toInt = ib_mn (a3 (3 * i + v)).toInt (a9 v).toInt (a10 v).toInt → -1000 ≤ r.toInt → r.toInt ≤ 1000 → post r) :
    wpX_leastTerm post (l, ac, d, a1, a2, a3, a4, a5, a6, a7, a8, a9, a10, a11) (nI i) (nI v) := by
  have h := hc.1 (3 * i + v) (by omega)
  have g := hw v hv
  have k := ib_mnb (f := (a3 (3 * i + v)).toInt) (lo := (a9 v).toInt) (hi := (a10 v).toInt) h.1 h.2 (by omega) (by omega) (by omega) (by omega)
  have m1 := ib_mb (a := (a3 (3 * i + v)).toInt) (b := (a9 v).toInt) h.1 h.2 (by omega) (by omega)
  have m2 := ib_mb (a := (a3 (3 * i + v)).toInt) (b := (a10 v).toInt) h.1 h.2 (by omega) (by omega)
  unfold wpX_leastTerm
  dsimp only
  rw [ib_ix, nI_clamp (show 3 * i + v < 2 ^ 31 by omega), nI_clamp (show v < 2 ^ 31 by omega)]
  refine ⟨pk_in (3 * i + v) 24 (by omega), nm_e (br_c (fun z => ⟨pk_in v 3 hv, ?_⟩) (fun z => ⟨pk_in v 3 hv, ?_⟩))⟩
  · have e : (a3 (3 * i + v) * a10 v).toInt = ib_mn (a3 (3 * i + v)).toInt (a9 v).toInt (a10 v).toInt := by
      rw [ib_mul (by omega) (by omega)]
      unfold ib_mn
      rw [if_pos (ib_le0.mp z)]
    exact H _ e (by omega) (by omega)
  · have e : (a3 (3 * i + v) * a9 v).toInt = ib_mn (a3 (3 * i + v)).toInt (a9 v).toInt (a10 v).toInt := by
      rw [ib_mul (by omega) (by omega)]
      unfold ib_mn
      rw [if_neg (fun t => z (ib_le0.mpr t))]
    exact H _ e (by omega) (by omega)
theorem ib_greatestTerm {post : Int32 → Prop} {i v : Nat} (hi : i < 8) (hv : v < 3) (hc : ib_C a3 a4) (hw : ib_W a9 a10)
    (H : ∀ r : Int32, r.toInt = ib_mx (a3 (3 * i + v)).toInt (a9 v).toInt (a10 v).toInt → -1000 ≤ r.toInt → r.toInt ≤ 1000 → post r) :
    wpX_greatestTerm post (l, ac, d, a1, a2, a3, a4, a5, a6, a7, a8, a9, a10, a11) (nI i) (nI v) := by
  have h := hc.1 (3 * i + v) (by omega)
  have g := hw v hv
  have m1 := ib_mb (a := (a3 (3 * i + v)).toInt) (b := (a9 v).toInt) h.1 h.2 (by omega) (by omega)
  have m2 := ib_mb (a := (a3 (3 * i + v)).toInt) (b := (a10 v).toInt) h.1 h.2 (by omega) (by omega)
  unfold wpX_greatestTerm
  dsimp only
  rw [ib_ix, nI_clamp (show 3 * i + v < 2 ^ 31 by omega), nI_clamp (show v < 2 ^ 31 by omega)]
  refine ⟨pk_in (3 * i + v) 24 (by omega), nm_e (br_c (fun z => ⟨pk_in v 3 hv, ?_⟩) (fun z => ⟨pk_in v 3 hv, ?_⟩))⟩
  · have e : (a3 (3 * i + v) * a9 v).toInt = ib_mx (a3 (3 * i + v)).toInt (a9 v).toInt (a10 v).toInt := by
      rw [ib_mul (by omega) (by omega)]
      unfold ib_mx
      rw [if_pos (ib_le0.mp z)]
    exact H _ e (by rw [ib_mul (by omega) (by omega)]; omega) (by rw [ib_mul (by omega) (by omega)]; omega)
  · have e : (a3 (3 * i + v) * a10 v).toInt = ib_mx (a3 (3 * i + v)).toInt (a9 v).toInt (a10 v).toInt := by
      rw [ib_mul (by omega) (by omega)]
      unfold ib_mx
      rw [if_neg (fun t => z (ib_le0.mpr t))]
    exact H _ e (by rw [ib_mul (by omega) (by omega)]; omega) (by rw [ib_mul (by omega) (by omega)]; omega)
theorem ib_add3 {x y z : Int32} (h1 : -1000 ≤ x.toInt) (h2 : x.toInt ≤ 1000) (h3 : -1000 ≤ y.toInt) (h4 : y.toInt ≤ 1000) (h5 : -1000 ≤ z.toInt) (h6 : z.toInt ≤ 1000) : (x + y + z).toInt = x.toInt + y.toInt + z.toInt := by
  have e : (x + y).toInt = x.toInt + y.toInt := ib_add (by omega) (by omega)
  rw [ib_add (by rw [e]; omega) (by rw [e]; omega), e]
theorem ib_leastSum {post : Int32 → Prop} {i : Nat} (hi : i < 8) (hc : ib_C a3 a4) (hw : ib_W a9 a10)
    (H : ∀ r : Int32, r.toInt = ib_ls a3 a9 a10 i → -3000 ≤ r.toInt → r.toInt ≤ 3000 → post r) : wpX_leastSum post (l, ac, d, a1, a2, a3, a4, a5, a6, a7, a8, a9, a10, a11) (nI i) := by
  unfold wpX_leastSum
  dsimp only
  refine ib_leastTerm (v := 0) hi (by omega) hc hw (fun r1 h1 b1 c1 => ?_)
  refine ib_leastTerm (v := 1) hi (by omega) hc hw (fun r2 h2 b2 c2 => ?_)
  refine ib_leastTerm (v := 2) hi (by omega) hc hw (fun r3 h3 b3 c3 => ?_)
  have e := ib_add3 b1 c1 b2 c2 b3 c3
  refine H _ ?_ (by omega) (by omega)
  rw [e, h1, h2, h3]
  rfl
theorem ib_greatestSum {post : Int32 → Prop} {i : Nat} (hi : i < 8) (hc : ib_C a3 a4) (hw : ib_W a9 a10)
    (H : ∀ r : Int32, r.toInt = ib_gs a3 a9 a10 i → post r) : wpX_greatestSum post (l, ac, d, a1, a2, a3, a4, a5, a6, a7, a8, a9, a10, a11) (nI i) := by
  unfold wpX_greatestSum
  dsimp only
  refine ib_greatestTerm (v := 0) hi (by omega) hc hw (fun r1 h1 b1 c1 => ?_)
  refine ib_greatestTerm (v := 1) hi (by omega) hc hw (fun r2 h2 b2 c2 => ?_)
  refine ib_greatestTerm (v := 2) hi (by omega) hc hw (fun r3 h3 b3 c3 => ?_)
  have e := ib_add3 b1 c1 b2 c2 b3 c3
  refine H _ ?_
  rw [e, h1, h2, h3]
  rfl
theorem ib_floorDivide {post : Int32 → Prop} {x y : Int32} (hx1 : -10000 ≤ x.toInt) (hx2 : x.toInt ≤ 10000) (hy1 : 1 ≤ y.toInt) (hy2 : y.toInt ≤ 5)
    (H : ∀ r : Int32, r.toInt * y.toInt ≤ x.toInt → x.toInt < (r.toInt + 1) * y.toInt → post r) : wpX_floorDivide post () x y := by
  have hn : ¬ y ≤ 0 := fun z => by
    have := ib_le0.mp z
    omega
  have h0 : ¬ y = 0 := fun z => by
    have := ib_eq0.mp z
    omega
  have hm : y ≠ -1 := fun z => by
    rw [z] at hy1
    exact absurd hy1 (by decide)
  have q : (x / y).toInt = x.toInt.tdiv y.toInt := Int32.toInt_div_of_ne_right x y hm
  have t := ib_td hy1 hy2 hx1 hx2
  rw [← q] at t
  obtain ⟨t1, t2, t3, t4, t5, t6⟩ := t
  have em : (x / y * y).toInt = (x / y).toInt * y.toInt := ib_mul (by omega) (by omega)
  unfold wpX_floorDivide
  refine br_f hn ⟨h0, ?_⟩
  unfold wX_floorDivide_11
  refine br_c (fun z => ?_) (fun z => ?_)
  · have z' := ib_le.mp z
    rw [em] at z'
    exact H _ z' (t1 z')
  · have z' : ¬ (x / y).toInt * y.toInt ≤ x.toInt := fun w => z (ib_le.mpr (by rw [em]; exact w))
    have es : (x / y - 1).toInt = (x / y).toInt - 1 := ib_sub (by rw [ib_z1]; omega) (by rw [ib_z1]; omega)
    have g := t2 z'
    refine H _ ?_ ?_
    · rw [es]
      exact g.1
    · rw [es, Int.sub_add_cancel]
      exact g.2
theorem ib_room {i v : Nat} (hv : v < 3) {x : Nat → Int} (hx : ib_in a9 a10 x) (hL : ib_L a3 a4 i x) :
    (a3 (3 * i + v)).toInt * x v ≤ (a4 i).toInt - (ib_ls a3 a9 a10 i - ib_mn (a3 (3 * i + v)).toInt (a9 v).toInt (a10 v).toInt) := by
  have e0 := (ib_tl (f := (a3 (3 * i + 0)).toInt) (hx 0 (by omega)).1 (hx 0 (by omega)).2).1
  have e1 := (ib_tl (f := (a3 (3 * i + 1)).toInt) (hx 1 (by omega)).1 (hx 1 (by omega)).2).1
  have e2 := (ib_tl (f := (a3 (3 * i + 2)).toInt) (hx 2 (by omega)).1 (hx 2 (by omega)).2).1
  unfold ib_L at hL
  unfold ib_ls
  have h : v = 0 ∨ v = 1 ∨ v = 2 := by omega
  rcases h with rfl | rfl | rfl <;> omega
theorem ib_roomb {i v : Nat} (hi : i < 8) (hv : v < 3) (hc : ib_C a3 a4) (hb : ib_B a9 a10) :
    -180 ≤ (a4 i).toInt - (ib_ls a3 a9 a10 i - ib_mn (a3 (3 * i + v)).toInt (a9 v).toInt (a10 v).toInt) ∧ (a4 i).toInt - (ib_ls a3 a9 a10 i - ib_mn (a3 (3 * i + v)).toInt (a9 v).toInt (a10 v).toInt) ≤ 180 := by
  have hB := hc.2 i hi
  have b0 := hb 0 (by omega)
  have b1 := hb 1 (by omega)
  have b2 := hb 2 (by omega)
  have f0 := hc.1 (3 * i + 0) (by omega)
  have f1 := hc.1 (3 * i + 1) (by omega)
  have f2 := hc.1 (3 * i + 2) (by omega)
  have e0 := ib_mnb8 (f := (a3 (3 * i + 0)).toInt) (lo := (a9 0).toInt) (hi := (a10 0).toInt) f0.1 f0.2 (by omega) (by omega) (by omega) (by omega)
  have e1 := ib_mnb8 (f := (a3 (3 * i + 1)).toInt) (lo := (a9 1).toInt) (hi := (a10 1).toInt) f1.1 f1.2 (by omega) (by omega) (by omega) (by omega)
  have e2 := ib_mnb8 (f := (a3 (3 * i + 2)).toInt) (lo := (a9 2).toInt) (hi := (a10 2).toInt) f2.1 f2.2 (by omega) (by omega) (by omega) (by omega)
  unfold ib_ls
  have h : v = 0 ∨ v = 1 ∨ v = 2 := by omega
  rcases h with rfl | rfl | rfl <;> omega
theorem ib_rb {r y x : Int} (hy1 : 1 ≤ y) (hy2 : y ≤ 5) (h1 : r * y ≤ x) (h2 : x < (r + 1) * y) (h3 : -180 ≤ x) (h4 : x ≤ 180) : -199 ≤ r ∧ r ≤ 199 := by
  have hy : y = 1 ∨ y = 2 ∨ y = 3 ∨ y = 4 ∨ y = 5 := by omega
  rcases hy with h | h | h | h | h <;> subst h <;> omega
theorem ib_narrow {post : Int32 → St2 → Prop} {i v : Nat} (hi : i < 8) (hv : v < 3) (hc : ib_C a3 a4) (hw : ib_W a9 a10) (hb : ib_B a9 a10)
    (H0 : post 0 (l, ac, d, a1, a2, a3, a4, a5, a6, a7, a8, a9, a10, a11))
    (H1 : ∀ m : Int32, m.toInt < (a10 v).toInt → -199 ≤ m.toInt → (∀ x, ib_in a9 a10 x → ib_L a3 a4 i x → x v ≤ m.toInt) → post 1 (l, ac, d, a1, a2, a3, a4, a5, a6, a7, a8, a9, upd a10 v m, a11))
    (H2 : ∀ m : Int32, (a9 v).toInt < m.toInt → m.toInt ≤ 199 → (∀ x, ib_in a9 a10 x → ib_L a3 a4 i x → m.toInt ≤ x v) → post 1 (l, ac, d, a1, a2, a3, a4, a5, a6, a7, a8, upd a9 v m, a10, a11)) :
    wpX_narrow post (l, ac, d, a1, a2, a3, a4, a5, a6, a7, a8, a9, a10, a11) (nI i) (nI v) := by
  have hf := hc.1 (3 * i + v) (by omega)
  have hB := hc.2 i hi
  have hr := ib_roomb (v := v) hi hv hc hb
  unfold wpX_narrow
  dsimp only
  rw [ib_ix, nI_clamp (show 3 * i + v < 2 ^ 31 by omega), nI_clamp (show v < 2 ^ 31 by omega), nI_clamp (show i < 2 ^ 31 by omega)]
  refine ⟨pk_in (3 * i + v) 24 (by omega), nm_e (br_c (fun _ => H0) (fun z => ⟨pk_in i 8 hi, ?_⟩))⟩
  have z' : ¬ (a3 (3 * i + v)).toInt = 0 := fun t => z (ib_eq0.mpr t)
  refine ib_leastSum hi hc hw (fun r5 e5 b5 c5 => ?_)
  refine ib_leastTerm hi hv hc hw (fun r6 e6 b6 c6 => nm_e ?_)
  have es : (r5 - r6).toInt = r5.toInt - r6.toInt := ib_sub (by omega) (by omega)
  have er : (a4 i - (r5 - r6)).toInt = (a4 i).toInt - (ib_ls a3 a9 a10 i - ib_mn (a3 (3 * i + v)).toInt (a9 v).toInt (a10 v).toInt) := by
    rw [ib_sub (by rw [es]; omega) (by rw [es]; omega), es, e5, e6]
  refine br_c (fun g => ?_) (fun g => ?_)
  · have g' := ib_le0.mp g
    have en : (-(a3 (3 * i + v))).toInt = -(a3 (3 * i + v)).toInt := ib_neg (by omega) (by omega)
    refine ib_floorDivide (by omega) (by omega) (by omega) (by omega) (fun r9 k1 k2 => nm_e ⟨pk_in v 3 hv, ?_⟩)
    have kb := ib_rb (by omega) (by omega) k1 k2 (by omega) (by omega)
    have e9 : (-r9).toInt = -r9.toInt := ib_neg (by omega) (by omega)
    refine br_c (fun t => ⟨pk_in v 3 hv, nm_e (H2 _ (ib_lt.mp t) (by omega) (fun x hx hL => ?_))⟩) (fun _ => H0)
    have q := ib_room hv hx hL
    rw [en, er] at k2
    have := ib_q (f := -(a3 (3 * i + v)).toInt) (x := -(x v)) (r := r9.toInt) (by omega) (by rw [Int.neg_mul_neg]; exact q) k2
    omega
  · have g' : ¬ (a3 (3 * i + v)).toInt ≤ 0 := fun t => g (ib_le0.mpr t)
    refine ib_floorDivide (by omega) (by omega) (by omega) (by omega) (fun r9 k1 k2 => ⟨pk_in v 3 hv, ?_⟩)
    have kb := ib_rb (by omega) (by omega) k1 k2 (by omega) (by omega)
    refine br_c (fun t => ⟨pk_in v 3 hv, nm_e (H1 _ (ib_lt.mp t) (by omega) (fun x hx hL => ?_))⟩) (fun _ => H0)
    have q := ib_room hv hx hL
    rw [er] at k2
    exact ib_q (by omega) q k2
theorem ib_empty {post : Int32 → Prop} (H0 : ib_E a9 a10 → post 0) (H1 : ¬ ib_E a9 a10 → post 1) : wpX_empty post (l, ac, d, a1, a2, a3, a4, a5, a6, a7, a8, a9, a10, a11) := by
  unfold wpX_empty
  dsimp only
  refine br_c (fun z => H1 (fun e => ?_)) (fun z0 => br_c (fun z => H1 (fun e => ?_)) (fun z1 => br_c (fun z => H0 ⟨?_, ?_, ib_le.mp z⟩) (fun z => H1 (fun e => ?_))))
  · have := ib_lt.mp z
    have := e.1
    omega
  · have := ib_lt.mp z
    have := e.2.1
    omega
  · have : ¬ (a10 0).toInt < (a9 0).toInt := fun t => z0 (ib_lt.mpr t)
    omega
  · have : ¬ (a10 1).toInt < (a9 1).toInt := fun t => z1 (ib_lt.mpr t)
    omega
  · exact z (ib_le.mpr e.2.2)
theorem ib_counts {post : Int32 → Prop} {i : Nat} (H0 : ¬ ib_act ac i → post 0) (H1 : ib_act ac i → post 1) : wpX_counts post (l, ac, d, a1, a2, a3, a4, a5, a6, a7, a8, a9, a10, a11) (nI i) := by
  unfold wpX_counts
  dsimp only
  exact br_c (fun z => H1 z) (fun z => H0 z)
end
end
section
section
variable {l ac d : Int32} {a1 a2 a3 a4 a5 a6 a7 a8 a9 a10 a11 : Nat → Int32}
def ib_sz (b c : Nat → Int32) : Int := ((c 0).toInt - (b 0).toInt) + ((c 1).toInt - (b 1).toInt) + ((c 2).toInt - (b 2).toInt)
/-- narrowed from b c to b' c': nothing of Q is lost -/
def ib_N (Q : (Nat → Int) → Prop) (b c b' c' : Nat → Int32) : Prop := ib_W b' c' ∧ (ib_E b' c' → ∀ k, k < 3 → (b k).toInt ≤ (b' k).toInt ∧ (c' k).toInt ≤ (c k).toInt) ∧ (∀ x, ib_in b c x → Q x → ib_in b' c' x)
/-- no limit of the set is broken everywhere -/
def ib_Fx (a3 a4 : Nat → Int32) (ac : Int32) (b c : Nat → Int32) : Prop := ∀ j, j < 8 → ib_act ac j → ib_ls a3 b c j ≤ (a4 j).toInt
theorem ib_E3 {b c : Nat → Int32} (he : ib_E b c) : ∀ k, k < 3 → (b k).toInt ≤ (c k).toInt := ib_3 (P := fun k => (b k).toInt ≤ (c k).toInt) he.1 he.2.1 he.2.2
theorem ib_BE {b c : Nat → Int32} (hb : ib_B b c) : ib_E b c := ⟨(hb 0 (by omega)).2.1, (hb 1 (by omega)).2.1, (hb 2 (by omega)).2.1⟩
theorem ib_BW {b c : Nat → Int32} (hb : ib_B b c) : ib_W b c := fun k hk => by
  have := hb k hk
  omega
theorem ib_N0 {Q : (Nat → Int) → Prop} {b c : Nat → Int32} (hb : ib_B b c) : ib_N Q b c b c :=
  ⟨ib_BW hb, fun _ k _ => ⟨Int.le_refl _, Int.le_refl _⟩, fun x hx _ => hx⟩
theorem ib_NB {Q : (Nat → Int) → Prop} {b c b' c' : Nat → Int32} (hb : ib_B b c) (hn : ib_N Q b c b' c') (he : ib_E b' c') : ib_B b' c' := fun k hk => by
  have h1 := hb k hk
  have h2 := hn.2.1 he k hk
  have h3 := ib_E3 he k hk
  omega
theorem ib_N1 {Q : (Nat → Int) → Prop} {b c b' c' : Nat → Int32} {v : Nat} {m : Int32} (hn : ib_N Q b c b' c') (he : ib_E b' c') (hv : v < 3)
    (h1 : m.toInt < (c' v).toInt) (h2 : -199 ≤ m.toInt) (h3 : ∀ x, ib_in b' c' x → Q x → x v ≤ m.toInt) :
    ib_N Q b c b' (upd c' v m) ∧ ib_sz b' (upd c' v m) < ib_sz b' c' := by
  refine ⟨⟨fun k hk => ?_, fun _ k hk => ?_, fun x hx hq k hk => ?_⟩, ?_⟩
  · have w := hn.1 k hk
    by_cases e : k = v
    · subst e
      rw [pk_us]
      omega
    · rw [pk_un e]
      exact w
  · have w := hn.2.1 he k hk
    by_cases e : k = v
    · subst e
      rw [pk_us]
      omega
    · rw [pk_un e]
      exact w
  · have w := hn.2.2 x hx hq
    have w' := w k hk
    by_cases e : k = v
    · subst e
      rw [pk_us]
      exact ⟨w'.1, h3 x w hq⟩
    · rw [pk_un e]
      exact w'
  · have h : v = 0 ∨ v = 1 ∨ v = 2 := by omega
    unfold ib_sz
    rcases h with rfl | rfl | rfl
    · rw [pk_us, pk_un (show (1 : Nat) ≠ 0 by decide), pk_un (show (2 : Nat) ≠ 0 by decide)]
      omega
    · rw [pk_us, pk_un (show (0 : Nat) ≠ 1 by decide), pk_un (show (2 : Nat) ≠ 1 by decide)]
      omega
    · rw [pk_us, pk_un (show (0 : Nat) ≠ 2 by decide), pk_un (show (1 : Nat) ≠ 2 by decide)]
      omega
theorem ib_N2 {Q : (Nat → Int) → Prop} {b c b' c' : Nat → Int32} {v : Nat} {m : Int32} (hn : ib_N Q b c b' c') (he : ib_E b' c') (hv : v < 3)
    (h1 : (b' v).toInt < m.toInt) (h2 : m.toInt ≤ 199) (h3 : ∀ x, ib_in b' c' x → Q x → m.toInt ≤ x v) :
    ib_N Q b c (upd b' v m) c' ∧ ib_sz (upd b' v m) c' < ib_sz b' c' := by
  refine ⟨⟨fun k hk => ?_, fun _ k hk => ?_, fun x hx hq k hk => ?_⟩, ?_⟩
  · have w := hn.1 k hk
    by_cases e : k = v
    · subst e
      rw [pk_us]
      omega
    · rw [pk_un e]
      exact w
  · have w := hn.2.1 he k hk
    by_cases e : k = v
    · subst e
      rw [pk_us]
      omega
    · rw [pk_un e]
      exact w
  · have w := hn.2.2 x hx hq
    have w' := w k hk
    by_cases e : k = v
    · subst e
      rw [pk_us]
      exact ⟨h3 x w hq, w'.2⟩
    · rw [pk_un e]
      exact w'
  · have h : v = 0 ∨ v = 1 ∨ v = 2 := by omega
    unfold ib_sz
    rcases h with rfl | rfl | rfl
    · rw [pk_us, pk_un (show (1 : Nat) ≠ 0 by decide), pk_un (show (2 : Nat) ≠ 0 by decide)]
      omega
    · rw [pk_us, pk_un (show (0 : Nat) ≠ 1 by decide), pk_un (show (2 : Nat) ≠ 1 by decide)]
      omega
    · rw [pk_us, pk_un (show (0 : Nat) ≠ 2 by decide), pk_un (show (1 : Nat) ≠ 2 by decide)]
      omega
theorem ib_lsle {i : Nat} {x : Nat → Int} (hx : ib_in a9 a10 x) (hL : ib_L a3 a4 i x) : ib_ls a3 a9 a10 i ≤ (a4 i).toInt := by
  have e0 := (ib_tl (f := (a3 (3 * i + 0)).toInt) (hx 0 (by omega)).1 (hx 0 (by omega)).2).1
  have e1 := (ib_tl (f := (a3 (3 * i + 1)).toInt) (hx 1 (by omega)).1 (hx 1 (by omega)).2).1
  have e2 := (ib_tl (f := (a3 (3 * i + 2)).toInt) (hx 2 (by omega)).1 (hx 2 (by omega)).2).1
  unfold ib_L at hL
  unfold ib_ls
  omega
/-- the box made empty -/
theorem ib_N3 {Q : (Nat → Int) → Prop} {b c b' c' : Nat → Int32} (hn : ib_N Q b c b' c') (h : ∀ x, ib_in b' c' x → Q x → False) :
    ib_N Q b c (upd b' 0 (c' 0 + 1)) c' ∧ ¬ ib_E (upd b' 0 (c' 0 + 1)) c' := by
  have w0 := hn.1 0 (by omega)
  have e1 : (c' 0 + 1).toInt = (c' 0).toInt + 1 := ib_add (by rw [ib_z1]; omega) (by rw [ib_z1]; omega)
  have hE : ¬ ib_E (upd b' 0 (c' 0 + 1)) c' := fun he => by
    have := he.1
    rw [pk_us, e1] at this
    omega
  refine ⟨⟨fun k hk => ?_, fun he => absurd he hE, fun x hx hq => (h x (hn.2.2 x hx hq) hq).elim⟩, hE⟩
  have w := hn.1 k hk
  by_cases e : k = 0
  · subst e
    rw [pk_us, e1]
    omega
  · rw [pk_un e]
    exact w
theorem ib_nar0 : narrow .boolean (.int 0) = .int 0 := rfl
theorem ib_nar1 : narrow .boolean (.int 1) = .int 1 := rfl
theorem ib_narrowBy {post : Int32 → St2 → Prop} {i : Nat} {Q : (Nat → Int) → Prop} {b c : Nat → Int32} (hi : i < 8) (hc : ib_C a3 a4) (hb : ib_B b c) (hQ : ∀ x, Q x → ib_L a3 a4 i x) (hn : ib_N Q b c a9 a10)
    (H0 : ib_ls a3 a9 a10 i ≤ (a4 i).toInt → post 0 (l, ac, d, a1, a2, a3, a4, a5, a6, a7, a8, a9, a10, a11))
    (H1 : ∀ b' c', ib_N Q b c b' c' → (ib_E b' c' → ib_E a9 a10 ∧ ib_sz b' c' < ib_sz a9 a10) → post 1 (l, ac, d, a1, a2, a3, a4, a5, a6, a7, a8, b', c', a11)) :
    wpX_narrowBy post (l, ac, d, a1, a2, a3, a4, a5, a6, a7, a8, a9, a10, a11) (nI i) := by
  unfold wpX_narrowBy
  dsimp only
  refine ib_leastSum hi hc hn.1 (fun r e b1 c1 => ⟨pk_in i 8 hi, ?_⟩)
  rw [nI_clamp (show i < 2 ^ 31 by omega)]
  refine br_c (fun z => ?_) (fun z => nm_e ?_)
  · have z' := ib_le.mp z
    rw [e] at z'
    refine pk_loop (σ := Int32 × (Nat → Int32) × (Nat → Int32)) (fun n v s => wX_narrowBy_37 post (nI i) n s.1 (nI v) l ac d a1 a2 a3 a4 a5 a6 a7 a8 s.2.1 s.2.2 a11)
      (fun v s => ib_N Q b c s.2.1 s.2.2 ∧ ((s.1 = 0 ∧ s.2.1 = a9 ∧ s.2.2 = a10) ∨ (s.1 = 1 ∧ (ib_E s.2.1 s.2.2 → ib_E a9 a10 ∧ ib_sz s.2.1 s.2.2 < ib_sz a9 a10)))) 3 0 (0, a9, a10) (by omega) ⟨hn, Or.inl ⟨rfl, rfl, rfl⟩⟩ ?_ ?_
    · intro n s hI
      obtain ⟨x2, b', c'⟩ := s
      obtain ⟨hN, h⟩ := hI
      dsimp only at hN h ⊢
      refine pk_le 3 3 (fun _ => ?_) (fun t => absurd t (by omega))
      rcases h with ⟨rfl, rfl, rfl⟩ | ⟨rfl, h⟩
      · exact ⟨ib_nar0, H0 z'⟩
      · exact ⟨ib_nar1, H1 _ _ hN h⟩
    · intro n v s hv hI hw
      obtain ⟨x2, b', c'⟩ := s
      obtain ⟨hN, h⟩ := hI
      dsimp only at hN h ⊢
      refine pk_le 3 v (fun t => absurd t (by omega)) (fun _ => ?_)
      rcases h with ⟨rfl, rfl, rfl⟩ | ⟨rfl, h⟩
      · refine ib_empty (fun he => br_t rfl ?_) (fun he => br_f ib_10 ?_)
        · refine ib_narrow hi hv hc hN.1 (ib_NB hb hN he) ?_ (fun m m1 m2 m3 => ?_) (fun m m1 m2 m3 => ?_)
          · exact br_t rfl (br_t rfl (br_t rfl (nm_r (nI_1 v) (hw (0, b', c') ⟨hN, Or.inl ⟨rfl, rfl, rfl⟩⟩))))
          · have k := ib_N1 hN he hv m1 m2 (fun x hx hq => m3 x hx (hQ x hq))
            exact br_f ib_10 (br_t rfl (br_f ib_10 (nm_r (nI_1 v) (hw (1, b', upd c' v m) ⟨k.1, Or.inr ⟨rfl, fun _ => ⟨he, k.2⟩⟩⟩))))
          · have k := ib_N2 hN he hv m1 m2 (fun x hx hq => m3 x hx (hQ x hq))
            exact br_f ib_10 (br_t rfl (br_f ib_10 (nm_r (nI_1 v) (hw (1, upd b' v m, c') ⟨k.1, Or.inr ⟨rfl, fun _ => ⟨he, k.2⟩⟩⟩))))
        · exact br_t rfl (br_t rfl (nm_r (nI_1 v) (hw (0, b', c') ⟨hN, Or.inl ⟨rfl, rfl, rfl⟩⟩)))
      · refine ib_empty (fun he => br_t rfl ?_) (fun he => br_f ib_10 ?_)
        · refine ib_narrow hi hv hc hN.1 (ib_NB hb hN he) ?_ (fun m m1 m2 m3 => ?_) (fun m m1 m2 m3 => ?_)
          · exact br_t rfl (br_f ib_10 (nm_r (nI_1 v) (hw (1, b', c') ⟨hN, Or.inr ⟨rfl, h⟩⟩)))
          · have k := ib_N1 hN he hv m1 m2 (fun x hx hq => m3 x hx (hQ x hq))
            exact br_f ib_10 (br_f ib_10 (nm_r (nI_1 v) (hw (1, b', upd c' v m) ⟨k.1, Or.inr ⟨rfl, fun _ => ⟨(h he).1, Int.lt_trans k.2 (h he).2⟩⟩⟩)))
          · have k := ib_N2 hN he hv m1 m2 (fun x hx hq => m3 x hx (hQ x hq))
            exact br_f ib_10 (br_f ib_10 (nm_r (nI_1 v) (hw (1, upd b' v m, c') ⟨k.1, Or.inr ⟨rfl, fun _ => ⟨(h he).1, Int.lt_trans k.2 (h he).2⟩⟩⟩)))
        · exact br_f ib_10 (nm_r (nI_1 v) (hw (1, b', c') ⟨hN, Or.inr ⟨rfl, h⟩⟩))
  · have z' : ¬ ib_ls a3 a9 a10 i ≤ (a4 i).toInt := fun t => z (ib_le.mpr (by rw [e]; exact t))
    have k := ib_N3 hn (fun x hx hq => z' (ib_lsle hx (hQ x hq)))
    exact H1 _ _ k.1 (fun he => absurd he k.2)
theorem ib_na25 {post : St2 → Prop} {J : Int32 → Int32 → Int32 → Int32 → Int32 → (Nat → Int32) → (Nat → Int32) → (Nat → Int32) → (Nat → Int32) → (Nat → Int32) → (Nat → Int32) → (Nat → Int32) → (Nat → Int32) → (Nat → Int32) → (Nat → Int32) → (Nat → Int32) → Prop}
    {x2 : Int32} {b c : Nat → Int32} (hc : ib_C a3 a4) (hb : ib_B b c) (hn : ib_N (ib_S a3 a4 ac) b c a9 a10)
    (H0 : ib_Fx a3 a4 ac a9 a10 → J 0 (x2 + 1) l ac d a1 a2 a3 a4 a5 a6 a7 a8 a9 a10 a11)
    (H1 : ∀ b' c', ib_N (ib_S a3 a4 ac) b c b' c' → (ib_E b' c' → ib_sz b' c' < ib_sz a9 a10) → J 1 (x2 + 1) l ac d a1 a2 a3 a4 a5 a6 a7 a8 b' c' a11) :
    ∃ fu, wX_narrowAll_25 post J x2 fu 0 0 l ac d a1 a2 a3 a4 a5 a6 a7 a8 a9 a10 a11 := by
  refine pk_loop (σ := Int32 × (Nat → Int32) × (Nat → Int32)) (fun n i s => wX_narrowAll_25 post J x2 n s.1 (nI i) l ac d a1 a2 a3 a4 a5 a6 a7 a8 s.2.1 s.2.2 a11)
    (fun i s => ib_N (ib_S a3 a4 ac) b c s.2.1 s.2.2 ∧ ((s.1 = 0 ∧ s.2.1 = a9 ∧ s.2.2 = a10 ∧ ∀ j, j < i → ib_act ac j → ib_ls a3 a9 a10 j ≤ (a4 j).toInt) ∨ (s.1 = 1 ∧ (ib_E s.2.1 s.2.2 → ib_sz s.2.1 s.2.2 < ib_sz a9 a10)))) 8 0 (0, a9, a10) (by omega)
    ⟨hn, Or.inl ⟨rfl, rfl, rfl, fun j hj => absurd hj (by omega)⟩⟩ ?_ ?_
  · intro n s hI
    obtain ⟨x1, b', c'⟩ := s
    obtain ⟨hN, h⟩ := hI
    dsimp only at hN h ⊢
    refine pk_le 8 8 (fun _ => nm_e ?_) (fun t => absurd t (by omega))
    rcases h with ⟨rfl, rfl, rfl, h⟩ | ⟨rfl, h⟩
    · exact H0 h
    · exact H1 _ _ hN h
  · intro n i s hi hI hw
    obtain ⟨x1, b', c'⟩ := s
    obtain ⟨hN, h⟩ := hI
    dsimp only at hN h ⊢
    refine pk_le 8 i (fun t => absurd t (by omega)) (fun _ => ?_)
    rcases h with ⟨rfl, rfl, rfl, h⟩ | ⟨rfl, h⟩
    · refine ib_counts (fun ha => br_t rfl (nm_r (nI_1 i) ?_)) (fun ha => br_f ib_10 ?_)
      · exact hw (0, b', c') ⟨hN, Or.inl ⟨rfl, rfl, rfl, lt_s h (fun t => absurd t ha)⟩⟩
      · refine ib_narrowBy hi hc hb (fun x hx => hx i hi ha) hN (fun k => ?_) (fun b'' c'' k1 k2 => ?_)
        · exact br_t rfl (br_t rfl (nm_r (nI_1 i) (hw (0, b', c') ⟨hN, Or.inl ⟨rfl, rfl, rfl, lt_s h (fun _ => k)⟩⟩)))
        · exact br_t rfl (br_f ib_10 (nm_r (nI_1 i) (hw (1, b'', c'') ⟨k1, Or.inr ⟨rfl, fun he => (k2 he).2⟩⟩)))
    · refine ib_counts (fun ha => br_t rfl (nm_r (nI_1 i) ?_)) (fun ha => br_f ib_10 ?_)
      · exact hw (1, b', c') ⟨hN, Or.inr ⟨rfl, h⟩⟩
      · refine ib_narrowBy hi hc hb (fun x hx => hx i hi ha) hN (fun k => ?_) (fun b'' c'' k1 k2 => ?_)
        · exact br_f ib_10 (nm_r (nI_1 i) (hw (1, b', c') ⟨hN, Or.inr ⟨rfl, h⟩⟩))
        · exact br_f ib_10 (nm_r (nI_1 i) (hw (1, b'', c'') ⟨k1, Or.inr ⟨rfl, fun he => Int.lt_trans (k2 he).2 (h (k2 he).1)⟩⟩))
theorem ib_sz0 {b c : Nat → Int32} (he : ib_E b c) : 0 ≤ ib_sz b c := by
  obtain ⟨h0, h1, h2⟩ := he
  unfold ib_sz
  omega
theorem ib_sz48 {b c : Nat → Int32} (hb : ib_B b c) : ib_sz b c ≤ 48 := by
  have h0 := hb 0 (by omega)
  have h1 := hb 1 (by omega)
  have h2 := hb 2 (by omega)
  unfold ib_sz
  omega
theorem ib_narrowAll {post : St2 → Prop} (hc : ib_C a3 a4) (hb : ib_B a9 a10)
    (H : ∀ b' c', ib_N (ib_S a3 a4 ac) a9 a10 b' c' → (ib_E b' c' → ib_Fx a3 a4 ac b' c') → post (l, ac, d, a1, a2, a3, a4, a5, a6, a7, a8, b', c', a11)) : wpX_narrowAll post (l, ac, d, a1, a2, a3, a4, a5, a6, a7, a8, a9, a10, a11) := by
  unfold wpX_narrowAll
  dsimp only
  refine pk_loop (σ := Int32 × (Nat → Int32) × (Nat → Int32)) (fun n p s => wX_narrowAll_4 post n s.1 (nI p) l ac d a1 a2 a3 a4 a5 a6 a7 a8 s.2.1 s.2.2 a11)
    (fun p s => ib_N (ib_S a3 a4 ac) a9 a10 s.2.1 s.2.2 ∧ ((s.1 = 0 ∧ ib_Fx a3 a4 ac s.2.1 s.2.2) ∨ (s.1 = 1 ∧ (ib_E s.2.1 s.2.2 → ib_sz s.2.1 s.2.2 + p ≤ 48)))) 52 0 (1, a9, a10) (by omega)
    ⟨ib_N0 hb, Or.inr ⟨rfl, fun _ => by have := ib_sz48 hb; dsimp only; omega⟩⟩ ?_ ?_
  · intro n s hI
    obtain ⟨x1, b', c'⟩ := s
    obtain ⟨hN, h⟩ := hI
    dsimp only at hN h ⊢
    refine pk_le 52 52 (fun _ => H _ _ hN (fun he => ?_)) (fun t => absurd t (by omega))
    rcases h with ⟨rfl, h⟩ | ⟨rfl, h⟩
    · exact h
    · have h1 := h he
      have h2 := ib_sz0 he
      exact absurd h1 (by omega)
  · intro n p s hp hI hw
    obtain ⟨x1, b', c'⟩ := s
    obtain ⟨hN, h⟩ := hI
    dsimp only at hN h ⊢
    refine pk_le 52 p (fun t => absurd t (by omega)) (fun _ => ?_)
    rcases h with ⟨rfl, h⟩ | ⟨rfl, h⟩
    · exact br_t rfl (H _ _ hN (fun _ => h))
    · refine br_f ib_10 (ib_empty (fun he => br_t rfl ?_) (fun he => br_f ib_10 (H _ _ hN (fun t => absurd t he))))
      refine ib_na25 hc hb hN (fun hf => ?_) (fun b'' c'' k1 k2 => ?_)
      · rw [nI_1]
        exact hw (0, b', c') ⟨hN, Or.inl ⟨rfl, hf⟩⟩
      · rw [nI_1]
        exact hw (1, b'', c'') ⟨k1, Or.inr ⟨rfl, fun he' => by
          have h1 := h he
          have h2 := k2 he'
          dsimp only
          omega⟩⟩
theorem ib_free {post : Int32 → Prop} (hc : ib_C a3 a4) (hw : ib_W a9 a10) (H1 : (∀ j, j < 8 → ib_act ac j → ib_gs a3 a9 a10 j ≤ (a4 j).toInt) → post 1)
    (H0 : ∀ j, j < 8 → ib_act ac j → ¬ ib_gs a3 a9 a10 j ≤ (a4 j).toInt → post 0) : wpX_free post (l, ac, d, a1, a2, a3, a4, a5, a6, a7, a8, a9, a10, a11) := by
  unfold wpX_free
  dsimp only
  refine pk_loop (σ := Unit) (fun n i _ => wX_free_2 post l ac d a1 a2 a3 a4 a5 a6 a7 a8 a9 a10 a11 n (nI i)) (fun i _ => ∀ j, j < i → ib_act ac j → ib_gs a3 a9 a10 j ≤ (a4 j).toInt) 8 0 () (by omega) (fun j hj => absurd hj (by omega)) ?_ ?_
  · intro n _ h
    exact pk_le 8 8 (fun _ => H1 h) (fun t => absurd t (by omega))
  · intro n i _ hi h hk
    refine pk_le 8 i (fun t => absurd t (by omega)) (fun _ => ?_)
    refine ib_counts (fun ha => br_t rfl (nm_r (nI_1 i) (hk () (lt_s h (fun t => absurd t ha))))) (fun ha => br_f ib_10 ?_)
    refine ib_greatestSum hi hc hw (fun r e => ⟨pk_in i 8 hi, ?_⟩)
    rw [nI_clamp (show i < 2 ^ 31 by omega)]
    refine br_c (fun z => nm_r (nI_1 i) (hk () (lt_s h (fun _ => ?_)))) (fun z => H0 i hi ha (fun t => z (ib_le.mpr (by rw [e]; exact t))))
    have z' := ib_le.mp z
    rw [e] at z'
    exact z'
end
end
section
section
variable {l ac d : Int32} {a1 a2 a3 a4 a5 a6 a7 a8 a9 a10 a11 : Nat → Int32}
theorem ib_fill {s g : Nat → Int32} {e i : Nat} {z : Int32} (h : ∀ k, k < i → s (e + k) = g k) (hz : z = g i) : ∀ k, k < i + 1 → upd s (e + i) z (e + k) = g k := by
  intro k hk
  by_cases w : k = i
  · rw [w, pk_us]
    exact hz
  · rw [pk_un (by omega)]
    exact h k (by omega)
theorem ib_keep {s a : Nat → Int32} {e i : Nat} {z : Int32} (h : ∀ j, j < e → s j = a j) : ∀ j, j < e → upd s (e + i) z j = a j := by
  intro j hj
  rw [pk_un (by omega)]
  exact h j hj
theorem ib_push {post : St2 → Prop} {e v : Nat} {x y : Int32} (he : e < 32) (hv : v < 3)
    (H : ∀ a7' a8' : Nat → Int32, (∀ j, j < 3 * e → a7' j = a7 j) → (∀ j, j < 3 * e → a8' j = a8 j) → (∀ k, k < 3 → a7' (3 * e + k) = if k = v then x else a9 k) → (∀ k, k < 3 → a8' (3 * e + k) = if k = v then y else a10 k) → post (l, ac, nI (e + 1), a1, a2, a3, a4, a5, a6, a7', a8', a9, a10, a11)) :
    wpX_push post (l, ac, nI e, a1, a2, a3, a4, a5, a6, a7, a8, a9, a10, a11) (nI v) x y := by
  unfold wpX_push
  dsimp only
  refine pk_loop (σ := (Nat → Int32) × (Nat → Int32)) (fun n i s => wX_push_3 post (nI v) x y l ac (nI e) n (nI i) a1 a2 a3 a4 a5 a6 s.1 s.2 a9 a10 a11)
    (fun i s => (∀ j, j < 3 * e → s.1 j = a7 j) ∧ (∀ j, j < 3 * e → s.2 j = a8 j) ∧ (∀ k, k < i → s.1 (3 * e + k) = if k = v then x else a9 k) ∧ (∀ k, k < i → s.2 (3 * e + k) = if k = v then y else a10 k)) 3 0 (a7, a8) (by omega)
    ⟨fun j _ => rfl, fun j _ => rfl, fun k hk => absurd hk (by omega), fun k hk => absurd hk (by omega)⟩ ?_ ?_
  · intro n s hI
    exact pk_le 3 3 (fun _ => nm_r (nI_1 e) (H _ _ hI.1 hI.2.1 hI.2.2.1 hI.2.2.2)) (fun t => absurd t (by omega))
  · intro n i s hi hI hw
    obtain ⟨s7, s8⟩ := s
    obtain ⟨h1, h2, h3, h4⟩ := hI
    dsimp only at h1 h2 h3 h4 ⊢
    refine pk_le 3 i (fun t => absurd t (by omega)) (fun _ => pk_eq i v (fun h => ?_) (fun h => ⟨pk_in i 3 hi, ?_⟩))
    · unfold wX_push_39
      rw [ib_ix, nI_clamp (show 3 * e + i < 2 ^ 31 by omega)]
      refine ⟨pk_in (3 * e + i) 96 (by omega), nm_e (br_t (by rw [h]) ⟨pk_in (3 * e + i) 96 (by omega), nm_e (nm_r (nI_1 i) ?_)⟩)⟩
      exact hw (upd s7 (3 * e + i) x, upd s8 (3 * e + i) y) ⟨ib_keep h1, ib_keep h2, ib_fill (g := fun k => if k = v then x else a9 k) h3 (if_pos h).symm, ib_fill (g := fun k => if k = v then y else a10 k) h4 (if_pos h).symm⟩
    · unfold wX_push_39
      rw [ib_ix, nI_clamp (show 3 * e + i < 2 ^ 31 by omega), nI_clamp (show i < 2 ^ 31 by omega)]
      refine ⟨pk_in (3 * e + i) 96 (by omega), nm_e (br_f (fun t => h ((nI_eq (by omega) (by omega)).mp t)) ⟨pk_in i 3 hi, pk_in (3 * e + i) 96 (by omega), nm_e (nm_r (nI_1 i) ?_)⟩)⟩
      exact hw (upd s7 (3 * e + i) (a9 i), upd s8 (3 * e + i) (a10 i)) ⟨ib_keep h1, ib_keep h2, ib_fill (g := fun k => if k = v then x else a9 k) h3 (if_neg h).symm, ib_fill (g := fun k => if k = v then y else a10 k) h4 (if_neg h).symm⟩
theorem ib_fill0 {s g : Nat → Int32} {i : Nat} {z : Int32} (h : ∀ k, k < i → s k = g k) (hz : z = g i) : ∀ k, k < i + 1 → upd s i z k = g k := by
  intro k hk
  by_cases w : k = i
  · rw [w, pk_us]
    exact hz
  · rw [pk_un w]
    exact h k (by omega)
theorem ib_pop {post : St2 → Prop} {e : Nat} (he : e < 32)
    (H : ∀ b c : Nat → Int32, (∀ k, k < 3 → b k = a7 (3 * e + k)) → (∀ k, k < 3 → c k = a8 (3 * e + k)) → post (l, ac, nI e, a1, a2, a3, a4, a5, a6, a7, a8, b, c, a11)) :
    wpX_pop post (l, ac, nI (e + 1), a1, a2, a3, a4, a5, a6, a7, a8, a9, a10, a11) := by
  unfold wpX_pop
  dsimp only
  refine nm_r (nI_pred e) ?_
  refine pk_loop (σ := (Nat → Int32) × (Nat → Int32)) (fun n i s => wX_pop_12 post l ac (nI e) n (nI i) a1 a2 a3 a4 a5 a6 a7 a8 s.1 s.2 a11)
    (fun i s => (∀ k, k < i → s.1 k = a7 (3 * e + k)) ∧ (∀ k, k < i → s.2 k = a8 (3 * e + k))) 3 0 (a9, a10) (by omega)
    ⟨fun k hk => absurd hk (by omega), fun k hk => absurd hk (by omega)⟩ ?_ ?_
  · intro n s hI
    exact pk_le 3 3 (fun _ => H _ _ hI.1 hI.2) (fun t => absurd t (by omega))
  · intro n i s hi hI hw
    obtain ⟨s7, s8⟩ := s
    obtain ⟨h1, h2⟩ := hI
    dsimp only at h1 h2 ⊢
    refine pk_le 3 i (fun t => absurd t (by omega)) (fun _ => ?_)
    rw [ib_ix, nI_clamp (show 3 * e + i < 2 ^ 31 by omega), nI_clamp (show i < 2 ^ 31 by omega)]
    refine ⟨pk_in (3 * e + i) 96 (by omega), pk_in i 3 hi, nm_e ⟨pk_in (3 * e + i) 96 (by omega), pk_in i 3 hi, nm_e (nm_r (nI_1 i) ?_)⟩⟩
    exact hw (upd s7 i (a7 (3 * e + i)), upd s8 i (a8 (3 * e + i))) ⟨ib_fill0 (g := fun k => a7 (3 * e + k)) h1 rfl, ib_fill0 (g := fun k => a8 (3 * e + k)) h2 rfl⟩
theorem ib_begin {post : St2 → Prop} {set : Int32}
    (H : ∀ a7' a8' b c : Nat → Int32, (∀ k, k < 3 → a7' (3 * 0 + k) = a1 k) → (∀ k, k < 3 → a8' (3 * 0 + k) = a2 k) → post (l, set, nI 1, a1, a2, a3, a4, a5, a6, a7', a8', b, c, a11)) :
    wpX_begin post (l, ac, d, a1, a2, a3, a4, a5, a6, a7, a8, a9, a10, a11) set := by
  unfold wpX_begin
  dsimp only
  refine pk_loop (σ := (Nat → Int32) × (Nat → Int32)) (fun n i s => wX_begin_12 post l set 0 n (nI i) a1 a2 a3 a4 a5 a6 a7 a8 s.1 s.2 a11)
    (fun i s => (∀ k, k < i → s.1 k = a1 k) ∧ (∀ k, k < i → s.2 k = a2 k)) 3 0 (a9, a10) (by omega)
    ⟨fun k hk => absurd hk (by omega), fun k hk => absurd hk (by omega)⟩ ?_ ?_
  · intro n s hI
    obtain ⟨s7, s8⟩ := s
    obtain ⟨h1, h2⟩ := hI
    dsimp only at h1 h2 ⊢
    refine pk_le 3 3 (fun _ => ?_) (fun t => absurd t (by omega))
    refine ib_push (e := 0) (v := 0) (by omega) (by omega) (fun a7' a8' _ _ g1 g2 => H a7' a8' s7 s8 (fun k hk => ?_) (fun k hk => ?_))
    · rw [g1 k hk]
      by_cases w : k = 0
      · rw [if_pos w, w]
      · rw [if_neg w]
        exact h1 k hk
    · rw [g2 k hk]
      by_cases w : k = 0
      · rw [if_pos w, w]
      · rw [if_neg w]
        exact h2 k hk
  · intro n i s hi hI hw
    obtain ⟨s7, s8⟩ := s
    obtain ⟨h1, h2⟩ := hI
    dsimp only at h1 h2 ⊢
    refine pk_le 3 i (fun t => absurd t (by omega)) (fun _ => ?_)
    rw [nI_clamp (show i < 2 ^ 31 by omega)]
    refine ⟨pk_in i 3 hi, pk_in i 3 hi, nm_e ⟨pk_in i 3 hi, pk_in i 3 hi, nm_e (nm_r (nI_1 i) ?_)⟩⟩
    exact hw (upd s7 i (a1 i), upd s8 i (a2 i)) ⟨ib_fill0 h1 rfl, ib_fill0 h2 rfl⟩
theorem ib_mid {x y : Int32} (h1 : -8 ≤ x.toInt) (h2 : x.toInt < y.toInt) (h3 : y.toInt ≤ 8) :
    x.toInt ≤ ((x + y + 16) / 2 - 8).toInt ∧ ((x + y + 16) / 2 - 8).toInt < y.toInt ∧ 2 * ((x + y + 16) / 2 - 8).toInt ≤ x.toInt + y.toInt ∧ x.toInt + y.toInt < 2 * ((x + y + 16) / 2 - 8).toInt + 2 := by
  have z16 : (16 : Int32).toInt = 16 := by decide
  have z8 : (8 : Int32).toInt = 8 := by decide
  have z2 : (2 : Int32).toInt = 2 := by decide
  have e1 : (x + y).toInt = x.toInt + y.toInt := ib_add (by omega) (by omega)
  have e2 : (x + y + 16).toInt = x.toInt + y.toInt + 16 := by rw [ib_add (by rw [e1, z16]; omega) (by rw [e1, z16]; omega), e1, z16]
  have e3 : ((x + y + 16) / 2).toInt = (x.toInt + y.toInt + 16) / 2 := by
    rw [Int32.toInt_div_of_ne_right _ _ (by decide), e2, z2, Int.tdiv_eq_ediv_of_nonneg (by omega)]
  have e4 : ((x + y + 16) / 2 - 8).toInt = (x.toInt + y.toInt + 16) / 2 - 8 := by rw [ib_sub (by rw [e3, z8]; omega) (by rw [e3, z8]; omega), e3, z8]
  rw [e4]
  omega
theorem ib_cut28 {post : St2 → Prop} {e v : Nat} (he : e + 1 < 32) (hv : v < 3) (hb : ib_B a9 a10) (hlt : (a9 v).toInt < (a10 v).toInt)
    (H : ∀ (a7' a8' : Nat → Int32) (m : Int32), (a9 v).toInt ≤ m.toInt → m.toInt < (a10 v).toInt → 2 * m.toInt ≤ (a9 v).toInt + (a10 v).toInt → (a9 v).toInt + (a10 v).toInt < 2 * m.toInt + 2 →
      (∀ j, j < 3 * e → a7' j = a7 j) → (∀ j, j < 3 * e → a8' j = a8 j) →
      (∀ k, k < 3 → a7' (3 * e + k) = if k = v then m + 1 else a9 k) → (∀ k, k < 3 → a8' (3 * e + k) = a10 k) →
      (∀ k, k < 3 → a7' (3 * (e + 1) + k) = a9 k) → (∀ k, k < 3 → a8' (3 * (e + 1) + k) = if k = v then m else a10 k) → post (l, ac, nI (e + 2), a1, a2, a3, a4, a5, a6, a7', a8', a9, a10, a11)) :
    wX_cut_28 post (nI v) l ac (nI e) a1 a2 a3 a4 a5 a6 a7 a8 a9 a10 a11 := by
  have q := ib_mid (hb v hv).1 hlt (hb v hv).2.2
  unfold wX_cut_28
  rw [nI_clamp (show v < 2 ^ 31 by omega)]
  refine ⟨pk_in v 3 hv, pk_in v 3 hv, by decide, nm_e ⟨pk_in v 3 hv, ?_⟩⟩
  refine ib_push (e := e) (by omega) hv (fun b7 b8 h1 h2 h3 h4 => ⟨pk_in v 3 hv, ?_⟩)
  refine ib_push (e := e + 1) (by omega) hv (fun c7 c8 g1 g2 g3 g4 => ?_)
  refine H c7 c8 _ q.1 q.2.1 q.2.2.1 q.2.2.2 (fun j hj => ?_) (fun j hj => ?_) (fun k hk => ?_) (fun k hk => ?_) (fun k hk => ?_) (fun k hk => ?_)
  · rw [g1 j (by omega), h1 j hj]
  · rw [g2 j (by omega), h2 j hj]
  · rw [g1 _ (by omega), h3 k hk]
  · rw [g2 _ (by omega), h4 k hk]
    by_cases w : k = v
    · rw [if_pos w, w]
    · rw [if_neg w]
  · rw [g3 k hk]
    by_cases w : k = v
    · rw [if_pos w, w]
    · rw [if_neg w]
  · exact g4 k hk
theorem ib_cut {post : St2 → Prop} {e : Nat} (he : e + 1 < 32) (hb : ib_B a9 a10) (hne : ¬ ∀ k, k < 3 → a9 k = a10 k)
    (H : ∀ (v : Nat) (a7' a8' : Nat → Int32) (m : Int32), v < 3 → (∀ k, k < v → a9 k = a10 k) → (a9 v).toInt ≤ m.toInt → m.toInt < (a10 v).toInt → 2 * m.toInt ≤ (a9 v).toInt + (a10 v).toInt → (a9 v).toInt + (a10 v).toInt < 2 * m.toInt + 2 →
      (∀ j, j < 3 * e → a7' j = a7 j) → (∀ j, j < 3 * e → a8' j = a8 j) →
      (∀ k, k < 3 → a7' (3 * e + k) = if k = v then m + 1 else a9 k) → (∀ k, k < 3 → a8' (3 * e + k) = a10 k) →
      (∀ k, k < 3 → a7' (3 * (e + 1) + k) = a9 k) → (∀ k, k < 3 → a8' (3 * (e + 1) + k) = if k = v then m else a10 k) → post (l, ac, nI (e + 2), a1, a2, a3, a4, a5, a6, a7', a8', a9, a10, a11)) :
    wpX_cut post (l, ac, nI e, a1, a2, a3, a4, a5, a6, a7, a8, a9, a10, a11) := by
  have lt : ∀ v, v < 3 → a9 v ≠ a10 v → (a9 v).toInt < (a10 v).toInt := fun v hv hn => by
    have h1 := hb v hv
    have h2 : (a9 v).toInt ≠ (a10 v).toInt := fun t => hn (Int32.toInt_inj.mp t)
    omega
  unfold wpX_cut
  dsimp only
  refine pk_loop (σ := Unit) (fun n i _ => wX_cut_2 post l ac (nI e) a1 a2 a3 a4 a5 a6 a7 a8 a9 a10 a11 n (nI i)) (fun i _ => ∀ k, k < i → a9 k = a10 k) 2 0 () (by omega) (fun k hk => absurd hk (by omega)) ?_ ?_
  · intro n _ h
    refine pk_le 2 2 (fun _ => ?_) (fun t => absurd t (by omega))
    refine ib_cut28 (v := 2) he (by omega) hb (lt 2 (by omega) (fun t => hne (fun k hk => ?_))) (fun a7' a8' m => H 2 a7' a8' m (by omega) h)
    by_cases w : k = 2
    · rw [w]
      exact t
    · exact h k (by omega)
  · intro n i _ hi h hw
    refine pk_le 2 i (fun t => absurd t (by omega)) (fun _ => ?_)
    rw [nI_clamp (show i < 2 ^ 31 by omega)]
    refine ⟨pk_in i 3 (by omega), pk_in i 3 (by omega), br_c (fun z => nm_r (nI_1 i) (hw () (lt_s h z))) (fun z => ?_)⟩
    exact ib_cut28 he (by omega) hb (lt i (by omega) z) (fun a7' a8' m => H i a7' a8' m (by omega) h)
end
end
section
section
variable {l ac d : Int32} {a1 a2 a3 a4 a5 a6 a7 a8 a9 a10 a11 : Nat → Int32}
/-- the j-th box of the stack: its low (or high) ends -/
def ib_bx (a : Nat → Int32) (j : Nat) : Nat → Int32 := fun k => if k = 0 then a (3 * j + 0) else if k = 1 then a (3 * j + 1) else a (3 * j + 2)
theorem ib_bxk {a : Nat → Int32} {j : Nat} : ∀ k, k < 3 → ib_bx a j k = a (3 * j + k) := ib_3 (P := fun k => ib_bx a j k = a (3 * j + k)) rfl rfl rfl
theorem ib_bxc {a a' : Nat → Int32} {j : Nat} (h : ∀ k, k < 3 → a' (3 * j + k) = a (3 * j + k)) : ib_bx a' j = ib_bx a j := by
  unfold ib_bx
  rw [h 0 (by omega), h 1 (by omega), h 2 (by omega)]
theorem ib_inc {b c b' c' : Nat → Int32} (hb : ∀ k, k < 3 → b' k = b k) (hc : ∀ k, k < 3 → c' k = c k) {x : Nat → Int} : ib_in b c x → ib_in b' c' x := by
  intro h k hk
  rw [hb k hk, hc k hk]
  exact h k hk
theorem ib_Bc {b c b' c' : Nat → Int32} (hb : ∀ k, k < 3 → b' k = b k) (hc : ∀ k, k < 3 → c' k = c k) (h : ib_B b c) : ib_B b' c' := by
  intro k hk
  rw [hb k hk, hc k hk]
  exact h k hk
theorem ib_Nc {Q : (Nat → Int) → Prop} {b c b1 c1 b' c' : Nat → Int32} (hb : ∀ k, k < 3 → b1 k = b k) (hc : ∀ k, k < 3 → c1 k = c k) (h : ib_N Q b1 c1 b' c') : ib_N Q b c b' c' :=
  ⟨h.1, fun he k hk => by rw [← hb k hk, ← hc k hk]; exact h.2.1 he k hk, fun x hx hq => h.2.2 x (ib_inc hb hc hx) hq⟩
theorem ib_Ein {b c : Nat → Int32} {x : Nat → Int} (h : ib_in b c x) : ib_E b c := by
  have h0 := h 0 (by omega)
  have h1 := h 1 (by omega)
  have h2 := h 2 (by omega)
  exact ⟨by omega, by omega, by omega⟩
theorem ib_Nin {Q : (Nat → Int) → Prop} {b c b' c' : Nat → Int32} (h : ib_N Q b c b' c') {x : Nat → Int} (hx : ib_in b' c' x) : ib_in b c x := fun k hk => by
  have h1 := h.2.1 (ib_Ein hx) k hk
  have h2 := hx k hk
  omega
/-- all limits hold in a free box -/
theorem ib_frS (h : ∀ j, j < 8 → ib_act ac j → ib_gs a3 a9 a10 j ≤ (a4 j).toInt) {x : Nat → Int} (hx : ib_in a9 a10 x) : ib_S a3 a4 ac x := by
  intro i hi ha
  have g := h i hi ha
  have e0 := (ib_tl (f := (a3 (3 * i + 0)).toInt) (hx 0 (by omega)).1 (hx 0 (by omega)).2).2
  have e1 := (ib_tl (f := (a3 (3 * i + 1)).toInt) (hx 1 (by omega)).1 (hx 1 (by omega)).2).2
  have e2 := (ib_tl (f := (a3 (3 * i + 2)).toInt) (hx 2 (by omega)).1 (hx 2 (by omega)).2).2
  unfold ib_gs at g
  unfold ib_L
  omega
/-- a box of one point that is left is free -/
theorem ib_ne {j : Nat} (hf : ib_Fx a3 a4 ac a9 a10) (hj : j < 8) (ha : ib_act ac j) (hg : ¬ ib_gs a3 a9 a10 j ≤ (a4 j).toInt) : ¬ ∀ k, k < 3 → a9 k = a10 k := by
  intro h
  have e := hf j hj ha
  unfold ib_ls at e
  unfold ib_gs at hg
  rw [h 0 (by omega), h 1 (by omega), h 2 (by omega), ib_mn1, ib_mn1, ib_mn1] at e
  rw [h 0 (by omega), h 1 (by omega), h 2 (by omega), ib_mx1, ib_mx1, ib_mx1] at hg
  exact hg e
/-! a box cut in two: b1 c1 the upper half, b2 c2 the lower -/
def ib_X (b c b1 c1 b2 c2 : Nat → Int32) (v : Nat) (m : Int) : Prop := v < 3 ∧ (∀ k, k < v → b k = c k) ∧ (b v).toInt ≤ m ∧ m < (c v).toInt ∧ 2 * m ≤ (b v).toInt + (c v).toInt ∧ (b v).toInt + (c v).toInt < 2 * m + 2 ∧
  (b1 v).toInt = m + 1 ∧ (∀ k, k < 3 → k ≠ v → b1 k = b k) ∧ (∀ k, k < 3 → c1 k = c k) ∧ (∀ k, k < 3 → b2 k = b k) ∧ (c2 v).toInt = m ∧ (∀ k, k < 3 → k ≠ v → c2 k = c k)
theorem ib_X_in {b c b1 c1 b2 c2 : Nat → Int32} {v : Nat} {m : Int} (h : ib_X b c b1 c1 b2 c2 v m) (x : Nat → Int) : ib_in b c x ↔ ib_in b1 c1 x ∨ ib_in b2 c2 x := by
  obtain ⟨hv, h1, h2, h3, h4, h5, h6, h7, h8, h9, h10, h11⟩ := h
  constructor
  · intro hx
    by_cases g : x v ≤ m
    · refine Or.inr (fun k hk => ?_)
      have w := hx k hk
      rw [h9 k hk]
      by_cases e : k = v
      · subst e
        omega
      · rw [h11 k hk e]
        exact w
    · refine Or.inl (fun k hk => ?_)
      have w := hx k hk
      rw [h8 k hk]
      by_cases e : k = v
      · subst e
        omega
      · rw [h7 k hk e]
        exact w
  · intro hx k hk
    rcases hx with hx | hx
    · have w := hx k hk
      rw [h8 k hk] at w
      by_cases e : k = v
      · subst e
        omega
      · rw [h7 k hk e] at w
        exact w
    · have w := hx k hk
      rw [h9 k hk] at w
      by_cases e : k = v
      · subst e
        omega
      · rw [h11 k hk e] at w
        exact w
theorem ib_X_dj {b c b1 c1 b2 c2 : Nat → Int32} {v : Nat} {m : Int} (h : ib_X b c b1 c1 b2 c2 v m) {x : Nat → Int} (g1 : ib_in b1 c1 x) (g2 : ib_in b2 c2 x) : False := by
  obtain ⟨hv, h1, h2, h3, h4, h5, h6, h7, h8, h9, h10, h11⟩ := h
  have w1 := g1 v hv
  have w2 := g2 v hv
  omega
theorem ib_X_B {b c b1 c1 b2 c2 : Nat → Int32} {v : Nat} {m : Int} (h : ib_X b c b1 c1 b2 c2 v m) (hb : ib_B b c) : ib_B b1 c1 ∧ ib_B b2 c2 := by
  obtain ⟨hv, h1, h2, h3, h4, h5, h6, h7, h8, h9, h10, h11⟩ := h
  refine ⟨fun k hk => ?_, fun k hk => ?_⟩
  · have w := hb k hk
    rw [h8 k hk]
    by_cases e : k = v
    · subst e
      omega
    · rw [h7 k hk e]
      exact w
  · have w := hb k hk
    rw [h9 k hk]
    by_cases e : k = v
    · subst e
      omega
    · rw [h11 k hk e]
      exact w
theorem ib_X_h {b c b1 c1 b2 c2 : Nat → Int32} {v : Nat} {m : Int} (h : ib_X b c b1 c1 b2 c2 v m) (hb : ib_B b c) : ib_hb b1 c1 + 1 ≤ ib_hb b c ∧ ib_hb b2 c2 + 1 ≤ ib_hb b c := by
  obtain ⟨hv, h1, h2, h3, h4, h5, h6, h7, h8, h9, h10, h11⟩ := h
  have w := hb v hv
  have p1 := ib_lg_h (n := (c v).toInt - (b v).toInt + 1) (m := (c1 v).toInt - (b1 v).toInt + 1) (by omega) (by omega) (by rw [h8 v hv]; omega)
  have p2 := ib_lg_h (n := (c v).toInt - (b v).toInt + 1) (m := (c2 v).toInt - (b2 v).toInt + 1) (by omega) (by omega) (by rw [h9 v hv]; omega)
  unfold ib_hb
  have hv' : v = 0 ∨ v = 1 ∨ v = 2 := by omega
  rcases hv' with rfl | rfl | rfl
  · rw [h8 1 (by omega), h8 2 (by omega), h7 1 (by omega) (by omega), h7 2 (by omega) (by omega), h9 1 (by omega), h9 2 (by omega), h11 1 (by omega) (by omega), h11 2 (by omega) (by omega)]
    omega
  · rw [h8 0 (by omega), h8 2 (by omega), h7 0 (by omega) (by omega), h7 2 (by omega) (by omega), h9 0 (by omega), h9 2 (by omega), h11 0 (by omega) (by omega), h11 2 (by omega) (by omega)]
    omega
  · rw [h8 0 (by omega), h8 1 (by omega), h7 0 (by omega) (by omega), h7 1 (by omega) (by omega), h9 0 (by omega), h9 1 (by omega), h11 0 (by omega) (by omega), h11 1 (by omega) (by omega)]
    omega
/-- x stands ahead of y -/
def ib_lx (x y : Nat → Int) : Prop := ∃ v, v < 3 ∧ (∀ k, k < v → x k = y k) ∧ x v < y v
theorem ib_X_lx {b c b1 c1 b2 c2 : Nat → Int32} {v : Nat} {m : Int} (h : ib_X b c b1 c1 b2 c2 v m) {x y : Nat → Int} (hx : ib_in b2 c2 x) (hy : ib_in b1 c1 y) : ib_lx x y := by
  obtain ⟨hv, h1, h2, h3, h4, h5, h6, h7, h8, h9, h10, h11⟩ := h
  refine ⟨v, hv, fun k hk => ?_, ?_⟩
  · have w1 := hx k (by omega)
    have w2 := hy k (by omega)
    rw [h9 k (by omega), h11 k (by omega) (by omega), h1 k hk] at w1
    rw [h8 k (by omega), h7 k (by omega) (by omega), h1 k hk] at w2
    omega
  · have w1 := hx v hv
    have w2 := hy v hv
    omega
/-! the stack -/
def ib_K (a7 a8 : Nat → Int32) (e : Nat) : Prop := ∀ j, j < e → ib_B (ib_bx a7 j) (ib_bx a8 j) ∧ ib_hb (ib_bx a7 j) (ib_bx a8 j) + j ≤ 15
noncomputable def ib_Ph (a7 a8 : Nat → Int32) (e : Nat) : Nat := ib_su e (fun j => 2 * ib_vol (ib_bx a7 j) (ib_bx a8 j) - 1)
noncomputable def ib_ct (Q : (Nat → Int) → Prop) (a7 a8 : Nat → Int32) (e : Nat) : Nat := ib_su e (fun j => ib_cn (fun x => ib_in (ib_bx a7 j) (ib_bx a8 j) x ∧ Q x))
theorem ib_K_e {a7 a8 : Nat → Int32} {e : Nat} (h : ib_K a7 a8 (e + 1)) : e ≤ 15 := by
  have := (h e (by omega)).2
  omega
theorem ib_drop {a7 a8 : Nat → Int32} {e : Nat} (h : ib_K a7 a8 (e + 1)) : ib_K a7 a8 e ∧ ib_Ph a7 a8 e + 1 ≤ ib_Ph a7 a8 (e + 1) := by
  refine ⟨fun j hj => h j (by omega), ?_⟩
  have v := ib_vol_1 (h e (by omega)).1
  show ib_Ph a7 a8 e + 1 ≤ ib_Ph a7 a8 e + (2 * ib_vol (ib_bx a7 e) (ib_bx a8 e) - 1)
  omega
theorem ib_hb_m {b c b' c' : Nat → Int32} (h : ∀ k, k < 3 → (b k).toInt ≤ (b' k).toInt ∧ (c' k).toInt ≤ (c k).toInt) : ib_hb b' c' ≤ ib_hb b c := by
  have h0 := h 0 (by omega)
  have h1 := h 1 (by omega)
  have h2 := h 2 (by omega)
  have g0 := ib_lg_m (n := (c' 0).toInt - (b' 0).toInt + 1) (m := (c 0).toInt - (b 0).toInt + 1) (by omega)
  have g1 := ib_lg_m (n := (c' 1).toInt - (b' 1).toInt + 1) (m := (c 1).toInt - (b 1).toInt + 1) (by omega)
  have g2 := ib_lg_m (n := (c' 2).toInt - (b' 2).toInt + 1) (m := (c 2).toInt - (b 2).toInt + 1) (by omega)
  unfold ib_hb
  omega
theorem ib_bxo {a a' : Nat → Int32} {e : Nat} (h : ∀ j, j < 3 * e → a' j = a j) : ∀ j, j < e → ib_bx a' j = ib_bx a j := fun j hj => ib_bxc (fun k hk => h _ (by omega))
theorem ib_two {Q : (Nat → Int) → Prop} {a7 a8 b7 b8 b' c' : Nat → Int32} {e v : Nat} {m : Int} (h : ib_K a7 a8 (e + 1)) (hN : ib_N Q (ib_bx a7 e) (ib_bx a8 e) b' c') (hE : ib_E b' c')
    (h7 : ∀ j, j < 3 * e → b7 j = a7 j) (h8 : ∀ j, j < 3 * e → b8 j = a8 j) (hX : ib_X b' c' (ib_bx b7 e) (ib_bx b8 e) (ib_bx b7 (e + 1)) (ib_bx b8 (e + 1)) v m) :
    ib_K b7 b8 (e + 2) ∧ ib_Ph b7 b8 (e + 2) + 1 ≤ ib_Ph a7 a8 (e + 1) := by
  have k := h e (by omega)
  have hB := ib_NB k.1 hN hE
  have o7 := ib_bxo h7
  have o8 := ib_bxo h8
  have hm := ib_hb_m (hN.2.1 hE)
  have hh := ib_X_h hX hB
  have hBB := ib_X_B hX hB
  refine ⟨fun j hj => ?_, ?_⟩
  · by_cases j1 : j < e
    · rw [o7 j j1, o8 j j1]
      exact h j (by omega)
    · by_cases j2 : j = e
      · subst j2
        exact ⟨hBB.1, by omega⟩
      · have j3 : j = e + 1 := by omega
        subst j3
        exact ⟨hBB.2, by omega⟩
  · have s : ib_su e (fun j => 2 * ib_vol (ib_bx b7 j) (ib_bx b8 j) - 1) = ib_su e (fun j => 2 * ib_vol (ib_bx a7 j) (ib_bx a8 j) - 1) := ib_su_c (fun j hj => by rw [o7 j hj, o8 j hj])
    have v1 := ib_vol_1 hBB.1
    have v2 := ib_vol_1 hBB.2
    have va : ib_vol b' c' = ib_vol (ib_bx b7 e) (ib_bx b8 e) + ib_vol (ib_bx b7 (e + 1)) (ib_bx b8 (e + 1)) := ib_cn_a (ib_X_in hX) (fun x z => ib_X_dj hX z.1 z.2)
    have vm : ib_vol b' c' ≤ ib_vol (ib_bx a7 e) (ib_bx a8 e) := ib_cn_m (fun x hx => ib_Nin hN hx)
    show ib_su e (fun j => 2 * ib_vol (ib_bx b7 j) (ib_bx b8 j) - 1) + (2 * ib_vol (ib_bx b7 e) (ib_bx b8 e) - 1) + (2 * ib_vol (ib_bx b7 (e + 1)) (ib_bx b8 (e + 1)) - 1) + 1 ≤ ib_su e (fun j => 2 * ib_vol (ib_bx a7 j) (ib_bx a8 j) - 1) + (2 * ib_vol (ib_bx a7 e) (ib_bx a8 e) - 1)
    rw [s]
    omega
theorem ib_ctN {Q : (Nat → Int) → Prop} {b c b' c' : Nat → Int32} (hN : ib_N Q b c b' c') : ib_cn (fun x => ib_in b c x ∧ Q x) = ib_cn (fun x => ib_in b' c' x ∧ Q x) :=
  ib_cn_c (fun x _ => ⟨fun h => ⟨hN.2.2 x h.1 h.2, h.2⟩, fun h => ⟨ib_Nin hN h.1, h.2⟩⟩)
theorem ib_ct2 {Q : (Nat → Int) → Prop} {a7 a8 b7 b8 b' c' : Nat → Int32} {e v : Nat} {m : Int} (hN : ib_N Q (ib_bx a7 e) (ib_bx a8 e) b' c')
    (h7 : ∀ j, j < 3 * e → b7 j = a7 j) (h8 : ∀ j, j < 3 * e → b8 j = a8 j) (hX : ib_X b' c' (ib_bx b7 e) (ib_bx b8 e) (ib_bx b7 (e + 1)) (ib_bx b8 (e + 1)) v m) :
    ib_ct Q b7 b8 (e + 2) = ib_ct Q a7 a8 (e + 1) := by
  have o7 := ib_bxo h7
  have o8 := ib_bxo h8
  have s : ib_su e (fun j => ib_cn (fun x => ib_in (ib_bx b7 j) (ib_bx b8 j) x ∧ Q x)) = ib_su e (fun j => ib_cn (fun x => ib_in (ib_bx a7 j) (ib_bx a8 j) x ∧ Q x)) := ib_su_c (fun j hj => by rw [o7 j hj, o8 j hj])
  have va : ib_cn (fun x => ib_in b' c' x ∧ Q x) = ib_cn (fun x => ib_in (ib_bx b7 e) (ib_bx b8 e) x ∧ Q x) + ib_cn (fun x => ib_in (ib_bx b7 (e + 1)) (ib_bx b8 (e + 1)) x ∧ Q x) :=
    ib_cn_a (fun x => ⟨fun h => ((ib_X_in hX x).mp h.1).elim (fun t => Or.inl ⟨t, h.2⟩) (fun t => Or.inr ⟨t, h.2⟩), fun h => h.elim (fun t => ⟨(ib_X_in hX x).mpr (Or.inl t.1), t.2⟩) (fun t => ⟨(ib_X_in hX x).mpr (Or.inr t.1), t.2⟩)⟩) (fun x z => ib_X_dj hX z.1.1 z.2.1)
  have vb := ib_ctN hN
  show ib_su e (fun j => ib_cn (fun x => ib_in (ib_bx b7 j) (ib_bx b8 j) x ∧ Q x)) + ib_cn (fun x => ib_in (ib_bx b7 e) (ib_bx b8 e) x ∧ Q x) + ib_cn (fun x => ib_in (ib_bx b7 (e + 1)) (ib_bx b8 (e + 1)) x ∧ Q x) = ib_su e (fun j => ib_cn (fun x => ib_in (ib_bx a7 j) (ib_bx a8 j) x ∧ Q x)) + ib_cn (fun x => ib_in (ib_bx a7 e) (ib_bx a8 e) x ∧ Q x)
  rw [s, vb, va]
  omega
/-- the cut, with its halves as boxes of the stack -/
theorem ib_cutX {post : St2 → Prop} {e : Nat} (he : e + 1 < 32) (hb : ib_B a9 a10) (hne : ¬ ∀ k, k < 3 → a9 k = a10 k)
    (H : ∀ (v : Nat) (m : Int) (b7 b8 : Nat → Int32), (∀ j, j < 3 * e → b7 j = a7 j) → (∀ j, j < 3 * e → b8 j = a8 j) → ib_X a9 a10 (ib_bx b7 e) (ib_bx b8 e) (ib_bx b7 (e + 1)) (ib_bx b8 (e + 1)) v m → post (l, ac, nI (e + 2), a1, a2, a3, a4, a5, a6, b7, b8, a9, a10, a11)) :
    wpX_cut post (l, ac, nI e, a1, a2, a3, a4, a5, a6, a7, a8, a9, a10, a11) := by
  refine ib_cut he hb hne (fun v b7 b8 m hv h1 h2 h3 h4 h5 h6 h7 h8 h9 h10 h11 => ?_)
  have w := hb v hv
  have em : (m + 1).toInt = m.toInt + 1 := ib_add (by rw [ib_z1]; omega) (by rw [ib_z1]; omega)
  refine H v m.toInt b7 b8 h6 h7 ⟨hv, h1, h2, h3, h4, h5, ?_, fun k hk hn => ?_, fun k hk => ?_, fun k hk => ?_, ?_, fun k hk hn => ?_⟩
  · rw [ib_bxk v hv, h8 v hv, if_pos rfl]
    exact em
  · rw [ib_bxk k hk, h8 k hk, if_neg hn]
  · rw [ib_bxk k hk, h9 k hk]
  · rw [ib_bxk k hk, h10 k hk]
  · rw [ib_bxk v hv, h11 v hv, if_pos rfl]
  · rw [ib_bxk k hk, h11 k hk, if_neg hn]
/-- the stack at the beginning -/
theorem ib_K1 {b c a7 a8 : Nat → Int32} (h7 : ∀ k, k < 3 → a7 (3 * 0 + k) = b k) (h8 : ∀ k, k < 3 → a8 (3 * 0 + k) = c k) (hb : ib_B b c) : ib_K a7 a8 1 ∧ ib_Ph a7 a8 1 ≤ 9825 := by
  refine ⟨fun j hj => ?_, ?_⟩
  · have e : j = 0 := by omega
    subst e
    have := ib_hb_15 (ib_bx a7 0) (ib_bx a8 0)
    exact ⟨ib_Bc (fun k hk => by rw [ib_bxk k hk, h7 k hk]) (fun k hk => by rw [ib_bxk k hk, h8 k hk]) hb, by omega⟩
  · have v : ib_vol (ib_bx a7 0) (ib_bx a8 0) ≤ 4913 := ib_cn_le
    show 0 + (2 * ib_vol (ib_bx a7 0) (ib_bx a8 0) - 1) ≤ 9825
    omega
theorem ib_bx1 {b c a7 a8 : Nat → Int32} (h7 : ∀ k, k < 3 → a7 (3 * 0 + k) = b k) (h8 : ∀ k, k < 3 → a8 (3 * 0 + k) = c k) (x : Nat → Int) : ib_in (ib_bx a7 0) (ib_bx a8 0) x ↔ ib_in b c x :=
  ⟨ib_inc (fun k hk => by rw [ib_bxk k hk, h7 k hk]) (fun k hk => by rw [ib_bxk k hk, h8 k hk]), ib_inc (fun k hk => by rw [ib_bxk k hk, h7 k hk]) (fun k hk => by rw [ib_bxk k hk, h8 k hk])⟩
theorem ib_dim {b c : Nat → Int32} (h : ib_B b c) {k : Nat} (hk : k < 3) : c k - b k + 1 = nI ((c k).toInt - (b k).toInt + 1).toNat := by
  have w := h k hk
  apply Int32.toInt_inj.mp
  have e : (c k - b k).toInt = (c k).toInt - (b k).toInt := ib_sub (by omega) (by omega)
  rw [ib_add (by rw [e, ib_z1]; omega) (by rw [e, ib_z1]; omega), e, ib_z1, nI_toInt (by omega)]
  omega
theorem ib_volume {post : Int32 → Prop} (hb : ib_B a9 a10) (H : post (nI (ib_vol a9 a10))) : wpX_volume post (l, ac, d, a1, a2, a3, a4, a5, a6, a7, a8, a9, a10, a11) := by
  unfold wpX_volume
  dsimp only
  rw [ib_dim hb (show 0 < 3 by omega), ib_dim hb (show 1 < 3 by omega), ib_dim hb (show 2 < 3 by omega), pk_mul, pk_mul, Nat.mul_assoc, ← ib_vol_eq hb]
  exact H
end
end
section
section
variable {l ac d : Int32} {a1 a2 a3 a4 a5 a6 a7 a8 a9 a10 a11 : Nat → Int32}
theorem ib_count {post : Int32 → St2 → Prop} {set : Int32} (hc : ib_C a3 a4) (hb : ib_B a1 a2)
    (H : ∀ (e' : Int32) (b7 b8 b9 b10 : Nat → Int32), post (nI (ib_cn (fun x => ib_in a1 a2 x ∧ ib_S a3 a4 set x))) (l, set, e', a1, a2, a3, a4, a5, a6, b7, b8, b9, b10, a11)) :
    wpX_countPoints post (l, ac, d, a1, a2, a3, a4, a5, a6, a7, a8, a9, a10, a11) set := by
  unfold wpX_countPoints
  dsimp only
  refine ib_begin (fun t7 t8 t9 t10 g7 g8 => ?_)
  have k1 := ib_K1 g7 g8 hb
  refine pk_loop (σ := Nat × Nat × (Nat → Int32) × (Nat → Int32) × (Nat → Int32) × (Nat → Int32)) (fun n i s => wX_countPoints_9 post n (nI s.1) (nI i) l set (nI s.2.1) a1 a2 a3 a4 a5 a6 s.2.2.1 s.2.2.2.1 s.2.2.2.2.1 s.2.2.2.2.2 a11)
    (fun i s => ib_K s.2.2.1 s.2.2.2.1 s.2.1 ∧ i + ib_Ph s.2.2.1 s.2.2.2.1 s.2.1 ≤ 9825 ∧ s.1 + ib_ct (ib_S a3 a4 set) s.2.2.1 s.2.2.2.1 s.2.1 = ib_cn (fun x => ib_in a1 a2 x ∧ ib_S a3 a4 set x)) 12000 0 (0, 1, t7, t8, t9, t10) (by omega) ⟨k1.1, ?_, ?_⟩ ?_ ?_
  · have := k1.2
    dsimp only
    omega
  · show 0 + (0 + ib_cn (fun x => ib_in (ib_bx t7 0) (ib_bx t8 0) x ∧ ib_S a3 a4 set x)) = _
    rw [Nat.zero_add, Nat.zero_add]
    exact ib_cn_c (fun x _ => ⟨fun h => ⟨(ib_bx1 g7 g8 x).mp h.1, h.2⟩, fun h => ⟨(ib_bx1 g7 g8 x).mpr h.1, h.2⟩⟩)
  · intro n s hI
    have := hI.2.1
    exact absurd this (by omega)
  · intro n i s hi hI hw
    obtain ⟨q, e, s7, s8, s9, s10⟩ := s
    obtain ⟨hK, hP, hT⟩ := hI
    dsimp only at hK hP hT ⊢
    refine pk_le 12000 i (fun t => absurd t (by omega)) (fun _ => ?_)
    cases e with
    | zero =>
      have eq : q = ib_cn (fun x => ib_in a1 a2 x ∧ ib_S a3 a4 set x) := hT
      rw [eq]
      exact pk_le 0 0 (fun _ => H _ _ _ _ _) (fun t => absurd t (by omega))
    | succ e =>
      have he := ib_K_e hK
      have hd := ib_drop hK
      refine pk_le (e + 1) 0 (fun t => absurd t (by omega)) (fun _ => ?_)
      refine ib_pop (e := e) (by omega) (fun b c p1 p2 => ?_)
      have w1 : ∀ k, k < 3 → b k = ib_bx s7 e k := fun k hk => by rw [p1 k hk, ib_bxk k hk]
      have w2 : ∀ k, k < 3 → c k = ib_bx s8 e k := fun k hk => by rw [p2 k hk, ib_bxk k hk]
      refine ib_narrowAll hc (ib_Bc w1 w2 (hK e (by omega)).1) (fun b' c' hN0 hF => ?_)
      have hN := ib_Nc w1 w2 hN0
      have hcn := ib_ctN hN
      have hT' : q + (ib_ct (ib_S a3 a4 set) s7 s8 e + ib_cn (fun x => ib_in (ib_bx s7 e) (ib_bx s8 e) x ∧ ib_S a3 a4 set x)) = ib_cn (fun x => ib_in a1 a2 x ∧ ib_S a3 a4 set x) := hT
      refine ib_empty (fun hE => br_t rfl ?_) (fun hE => br_f ib_10 (nm_r (nI_1 i) ?_))
      · have hB := ib_NB (hK e (by omega)).1 hN hE
        refine ib_free hc hN.1 (fun hfr => br_f ib_10 ?_) (fun j hj ha hg => br_t rfl ?_)
        · refine ib_volume hB (nm_r (nI_add _ _) (nm_r (nI_1 i) ?_))
          have ev : ib_cn (fun x => ib_in b' c' x ∧ ib_S a3 a4 set x) = ib_vol b' c' := ib_cn_c (fun x _ => ⟨fun h => h.1, fun h => ⟨h, ib_frS hfr h⟩⟩)
          refine hw (q + ib_vol b' c', e, s7, s8, b', c') ⟨hd.1, ?_, ?_⟩
          · have := hd.2
            dsimp only
            omega
          · show q + ib_vol b' c' + ib_ct (ib_S a3 a4 set) s7 s8 e = _
            omega
        · refine ib_cutX (by omega) hB (ib_ne (hF hE) hj ha hg) (fun v m b7 b8 h7 h8 hX => nm_r (nI_1 i) ?_)
          have h2 := ib_two hK hN hE h7 h8 hX
          have h3 := ib_ct2 hN h7 h8 hX
          refine hw (q, e + 2, b7, b8, b', c') ⟨h2.1, ?_, ?_⟩
          · have := h2.2
            dsimp only
            omega
          · show q + ib_ct (ib_S a3 a4 set) b7 b8 (e + 2) = _
            rw [h3]
            exact hT
      · have e0 : ib_cn (fun x => ib_in b' c' x ∧ ib_S a3 a4 set x) = 0 := ib_cn_0 (fun x _ h => hE (ib_Ein h.1))
        refine hw (q, e, s7, s8, b', c') ⟨hd.1, ?_, ?_⟩
        · have := hd.2
          dsimp only
          omega
        · show q + ib_ct (ib_S a3 a4 set) s7 s8 e = _
          omega
/-! what the stack covers: every point of Q in b c is done (D) or in one of its boxes -/
def ib_O1 (Q D : (Nat → Int) → Prop) (b c a7 a8 : Nat → Int32) (e : Nat) : Prop := ∀ x, ib_in b c x → Q x → D x ∨ ∃ j, j < e ∧ ib_in (ib_bx a7 j) (ib_bx a8 j) x
def ib_O2 (b c a7 a8 : Nat → Int32) (e : Nat) : Prop := ∀ j, j < e → ∀ x, ib_in (ib_bx a7 j) (ib_bx a8 j) x → ib_in b c x
def ib_O3 (a7 a8 : Nat → Int32) (e : Nat) : Prop := ∀ i j, i < j → j < e → ∀ x y, ib_in (ib_bx a7 j) (ib_bx a8 j) x → ib_in (ib_bx a7 i) (ib_bx a8 i) y → ib_lx x y
theorem ib_O1_d {Q D D' : (Nat → Int) → Prop} {b c a7 a8 : Nat → Int32} {e : Nat} (h : ib_O1 Q D b c a7 a8 (e + 1)) (hD : ∀ x, D x → D' x) (hx : ∀ x, ib_in (ib_bx a7 e) (ib_bx a8 e) x → Q x → D' x) : ib_O1 Q D' b c a7 a8 e := by
  intro x hi hq
  rcases h x hi hq with g | ⟨j, hj, g⟩
  · exact Or.inl (hD x g)
  · by_cases w : j = e
    · subst w
      exact Or.inl (hx x g hq)
    · exact Or.inr ⟨j, by omega, g⟩
theorem ib_O1_2 {Q D : (Nat → Int) → Prop} {b c a7 a8 b7 b8 b' c' : Nat → Int32} {e v : Nat} {m : Int} (h : ib_O1 Q D b c a7 a8 (e + 1)) (hN : ib_N Q (ib_bx a7 e) (ib_bx a8 e) b' c')
    (h7 : ∀ j, j < 3 * e → b7 j = a7 j) (h8 : ∀ j, j < 3 * e → b8 j = a8 j) (hX : ib_X b' c' (ib_bx b7 e) (ib_bx b8 e) (ib_bx b7 (e + 1)) (ib_bx b8 (e + 1)) v m) : ib_O1 Q D b c b7 b8 (e + 2) := by
  intro x hi hq
  rcases h x hi hq with g | ⟨j, hj, g⟩
  · exact Or.inl g
  · by_cases w : j = e
    · subst w
      rcases (ib_X_in hX x).mp (hN.2.2 x g hq) with t | t
      · exact Or.inr ⟨j, by omega, t⟩
      · exact Or.inr ⟨j + 1, by omega, t⟩
    · refine Or.inr ⟨j, by omega, ?_⟩
      rw [ib_bxo h7 j (by omega), ib_bxo h8 j (by omega)]
      exact g
theorem ib_in2 {Q : (Nat → Int) → Prop} {a7 a8 b7 b8 b' c' : Nat → Int32} {e v : Nat} {m : Int} (hN : ib_N Q (ib_bx a7 e) (ib_bx a8 e) b' c')
    (hX : ib_X b' c' (ib_bx b7 e) (ib_bx b8 e) (ib_bx b7 (e + 1)) (ib_bx b8 (e + 1)) v m) {j : Nat} (h1 : e ≤ j) (h2 : j < e + 2) {x : Nat → Int} (hx : ib_in (ib_bx b7 j) (ib_bx b8 j) x) : ib_in (ib_bx a7 e) (ib_bx a8 e) x := by
  apply ib_Nin hN
  by_cases w : j = e
  · subst w
    exact (ib_X_in hX x).mpr (Or.inl hx)
  · have w' : j = e + 1 := by omega
    subst w'
    exact (ib_X_in hX x).mpr (Or.inr hx)
theorem ib_O2_2 {Q : (Nat → Int) → Prop} {b c a7 a8 b7 b8 b' c' : Nat → Int32} {e v : Nat} {m : Int} (h : ib_O2 b c a7 a8 (e + 1)) (hN : ib_N Q (ib_bx a7 e) (ib_bx a8 e) b' c')
    (h7 : ∀ j, j < 3 * e → b7 j = a7 j) (h8 : ∀ j, j < 3 * e → b8 j = a8 j) (hX : ib_X b' c' (ib_bx b7 e) (ib_bx b8 e) (ib_bx b7 (e + 1)) (ib_bx b8 (e + 1)) v m) : ib_O2 b c b7 b8 (e + 2) := by
  intro j hj x hx
  by_cases w : j < e
  · rw [ib_bxo h7 j w, ib_bxo h8 j w] at hx
    exact h j (by omega) x hx
  · exact h e (by omega) x (ib_in2 hN hX (by omega) hj hx)
theorem ib_O3_2 {Q : (Nat → Int) → Prop} {a7 a8 b7 b8 b' c' : Nat → Int32} {e v : Nat} {m : Int} (h : ib_O3 a7 a8 (e + 1)) (hN : ib_N Q (ib_bx a7 e) (ib_bx a8 e) b' c')
    (h7 : ∀ j, j < 3 * e → b7 j = a7 j) (h8 : ∀ j, j < 3 * e → b8 j = a8 j) (hX : ib_X b' c' (ib_bx b7 e) (ib_bx b8 e) (ib_bx b7 (e + 1)) (ib_bx b8 (e + 1)) v m) : ib_O3 b7 b8 (e + 2) := by
  intro i j hij hj x y hx hy
  by_cases w : i < e
  · rw [ib_bxo h7 i w, ib_bxo h8 i w] at hy
    by_cases w2 : j < e
    · rw [ib_bxo h7 j w2, ib_bxo h8 j w2] at hx
      exact h i j hij (by omega) x y hx hy
    · exact h i e w (by omega) x y (ib_in2 hN hX (by omega) hj hx) hy
  · have e1 : i = e := by omega
    have e2 : j = e + 1 := by omega
    subst e1
    subst e2
    exact ib_X_lx hX hx hy
theorem ib_S_c {set : Int32} {x y : Nat → Int} (h : ∀ k, k < 3 → x k = y k) (hx : ib_S a3 a4 set x) : ib_S a3 a4 set y := by
  intro i hi ha
  have g := hx i hi ha
  unfold ib_L at g ⊢
  rw [← h 0 (by omega), ← h 1 (by omega), ← h 2 (by omega)]
  exact g
def ib_lf (x y : Nat → Int) : Prop := (∀ k, k < 3 → x k ≤ y k) ∨ ib_lx x y
theorem ib_ff48 {post : Int32 → St2 → Prop} (H : ∀ b11 : Nat → Int32, (∀ k, k < 3 → b11 k = a9 k) → post 1 (l, ac, d, a1, a2, a3, a4, a5, a6, a7, a8, a9, a10, b11)) : ∃ fu, wX_findFirst_48 post l ac d fu 0 a1 a2 a3 a4 a5 a6 a7 a8 a9 a10 a11 := by
  refine pk_loop (fun n i s => wX_findFirst_48 post l ac d n (nI i) a1 a2 a3 a4 a5 a6 a7 a8 a9 a10 s) (fun i s => ∀ k, k < i → s k = a9 k) 3 0 a11 (by omega) (fun k hk => absurd hk (by omega)) ?_ ?_
  · intro n s hI
    exact pk_le 3 3 (fun _ => H _ hI) (fun t => absurd t (by omega))
  · intro n i s hi hI hw
    refine pk_le 3 i (fun t => absurd t (by omega)) (fun _ => ?_)
    rw [nI_clamp (show i < 2 ^ 31 by omega)]
    exact ⟨pk_in i 3 hi, pk_in i 3 hi, nm_e (nm_r (nI_1 i) (hw _ (ib_fill0 hI rfl)))⟩
theorem ib_findFirst {post : Int32 → St2 → Prop} {set : Int32} (hc : ib_C a3 a4) (hb : ib_B a1 a2)
    (H0 : (∀ x, ib_in a1 a2 x → ¬ ib_S a3 a4 set x) → ∀ (e' : Int32) (b7 b8 b9 b10 : Nat → Int32), post 0 (l, set, e', a1, a2, a3, a4, a5, a6, b7, b8, b9, b10, a11))
    (H1 : ∀ x, ib_in a1 a2 x → ib_S a3 a4 set x → (∀ y, ib_in a1 a2 y → ib_S a3 a4 set y → ib_lf x y) → ∀ (e' : Int32) (b7 b8 b9 b10 b11 : Nat → Int32), (∀ k, k < 3 → (b11 k).toInt = x k) → post 1 (l, set, e', a1, a2, a3, a4, a5, a6, b7, b8, b9, b10, b11)) :
    wpX_findFirst post (l, ac, d, a1, a2, a3, a4, a5, a6, a7, a8, a9, a10, a11) set := by
  unfold wpX_findFirst
  dsimp only
  refine ib_begin (fun t7 t8 t9 t10 g7 g8 => ?_)
  have k1 := ib_K1 g7 g8 hb
  refine pk_loop (σ := Nat × (Nat → Int32) × (Nat → Int32) × (Nat → Int32) × (Nat → Int32)) (fun n i s => wX_findFirst_7 post n (nI i) l set (nI s.1) a1 a2 a3 a4 a5 a6 s.2.1 s.2.2.1 s.2.2.2.1 s.2.2.2.2 a11)
    (fun i s => ib_K s.2.1 s.2.2.1 s.1 ∧ i + ib_Ph s.2.1 s.2.2.1 s.1 ≤ 9825 ∧ ib_O1 (ib_S a3 a4 set) (fun _ => False) a1 a2 s.2.1 s.2.2.1 s.1 ∧ ib_O2 a1 a2 s.2.1 s.2.2.1 s.1 ∧ ib_O3 s.2.1 s.2.2.1 s.1) 12000 0 (1, t7, t8, t9, t10) (by omega) ⟨k1.1, ?_, ?_, ?_, ?_⟩ ?_ ?_
  · have := k1.2
    dsimp only
    omega
  · exact fun x hx _ => Or.inr ⟨0, by omega, (ib_bx1 g7 g8 x).mpr hx⟩
  · intro j hj x hx
    have e : j = 0 := by omega
    subst e
    exact (ib_bx1 g7 g8 x).mp hx
  · exact fun i j h1 h2 => absurd (show j < 1 from h2) (by omega)
  · intro n s hI
    have := hI.2.1
    exact absurd this (by omega)
  · intro n i s hi hI hw
    obtain ⟨e, s7, s8, s9, s10⟩ := s
    obtain ⟨hK, hP, h1, h2, h3⟩ := hI
    dsimp only at hK hP h1 h2 h3 ⊢
    refine pk_le 12000 i (fun t => absurd t (by omega)) (fun _ => ?_)
    cases e with
    | zero =>
      refine pk_le 0 0 (fun _ => H0 (fun x hx hs => ?_) _ _ _ _ _) (fun t => absurd t (by omega))
      rcases h1 x hx hs with t | ⟨j, hj, _⟩
      · exact t
      · exact absurd hj (by omega)
    | succ e =>
      have he := ib_K_e hK
      have hd := ib_drop hK
      refine pk_le (e + 1) 0 (fun t => absurd t (by omega)) (fun _ => ?_)
      refine ib_pop (e := e) (by omega) (fun b c p1 p2 => ?_)
      have w1 : ∀ k, k < 3 → b k = ib_bx s7 e k := fun k hk => by rw [p1 k hk, ib_bxk k hk]
      have w2 : ∀ k, k < 3 → c k = ib_bx s8 e k := fun k hk => by rw [p2 k hk, ib_bxk k hk]
      refine ib_narrowAll hc (ib_Bc w1 w2 (hK e (by omega)).1) (fun b' c' hN0 hF => ?_)
      have hN := ib_Nc w1 w2 hN0
      refine ib_empty (fun hE => br_t rfl ?_) (fun hE => br_f ib_10 (nm_r (nI_1 i) ?_))
      · have hB := ib_NB (hK e (by omega)).1 hN hE
        refine ib_free hc hN.1 (fun hfr => br_f ib_10 ?_) (fun j hj ha hg => br_t rfl ?_)
        · have hx : ib_in b' c' (fun k => (b' k).toInt) := fun k hk => ⟨Int.le_refl _, ib_E3 hE k hk⟩
          have hx2 := ib_Nin hN hx
          refine ib_ff48 (fun b11 h11 => H1 (fun k => (b' k).toInt) (h2 e (by omega) _ hx2) (ib_frS hfr hx) (fun y hy hs => ?_) _ _ _ _ _ _ (fun k hk => by rw [h11 k hk]))
          rcases h1 y hy hs with t | ⟨j, hj, t⟩
          · exact t.elim
          · by_cases w : j = e
            · subst w
              exact Or.inl (fun k hk => (hN.2.2 y t hs k hk).1)
            · exact Or.inr (h3 j e (by omega) (by omega) _ _ hx2 t)
        · refine ib_cutX (by omega) hB (ib_ne (hF hE) hj ha hg) (fun v m b7 b8 h7 h8 hX => nm_r (nI_1 i) ?_)
          have q2 := ib_two hK hN hE h7 h8 hX
          refine hw (e + 2, b7, b8, b', c') ⟨q2.1, ?_, ib_O1_2 h1 hN h7 h8 hX, ib_O2_2 h2 hN h7 h8 hX, ib_O3_2 h3 hN h7 h8 hX⟩
          have := q2.2
          dsimp only
          omega
      · refine hw (e, s7, s8, b', c') ⟨hd.1, ?_, ib_O1_d h1 (fun _ t => t) (fun x hx hs => hE (ib_Ein (hN.2.2 x hx hs))), fun j hj => h2 j (Nat.lt_succ_of_lt hj), fun i j hij hj => h3 i j hij (Nat.lt_succ_of_lt hj)⟩
        have := hd.2
        dsimp only
        omega
/-! the goal -/
def ib_G (a6 : Nat → Int32) (x : Nat → Int) : Int := (a6 0).toInt * x 0 + (a6 1).toInt * x 1 + (a6 2).toInt * x 2
def ib_gm (a6 b c : Nat → Int32) : Int := ib_mx (a6 0).toInt (b 0).toInt (c 0).toInt + ib_mx (a6 1).toInt (b 1).toInt (c 1).toInt + ib_mx (a6 2).toInt (b 2).toInt (c 2).toInt
def ib_GC (a6 : Nat → Int32) : Prop := ∀ k, k < 3 → -5 ≤ (a6 k).toInt ∧ (a6 k).toInt ≤ 5
theorem ib_mxb8 {f lo hi : Int} (h1 : -5 ≤ f) (h2 : f ≤ 5) (h3 : -8 ≤ lo) (h4 : lo ≤ 8) (h5 : -8 ≤ hi) (h6 : hi ≤ 8) : -40 ≤ ib_mx f lo hi ∧ ib_mx f lo hi ≤ 40 := by
  unfold ib_mx
  split
  · exact ib_mb8 h1 h2 h3 h4
  · exact ib_mb8 h1 h2 h5 h6
theorem ib_gb1 {post : Int32 → Prop} {n k : Nat} {x1 : Int32} (hk : k < 3) (hg : ib_GC a6) (hb : ib_B a9 a10) (hx1 : -1000 ≤ x1.toInt) (hx2 : x1.toInt ≤ 1000)
    (H : ∀ r : Int32, r.toInt = x1.toInt + ib_mx (a6 k).toInt (a9 k).toInt (a10 k).toInt → -40 ≤ ib_mx (a6 k).toInt (a9 k).toInt (a10 k).toInt → ib_mx (a6 k).toInt (a9 k).toInt (a10 k).toInt ≤ 40 → wX_goalBound_4 post l ac d a1 a2 a3 a4 a5 a6 a7 a8 a9 a10 a11 n r (nI (k + 1))) :
    wX_goalBound_4 post l ac d a1 a2 a3 a4 a5 a6 a7 a8 a9 a10 a11 (n + 1) x1 (nI k) := by
  have g := hg k hk
  have w := hb k hk
  have m1 := ib_mb8 (a := (a6 k).toInt) (b := (a9 k).toInt) g.1 g.2 (by omega) (by omega)
  have m2 := ib_mb8 (a := (a6 k).toInt) (b := (a10 k).toInt) g.1 g.2 (by omega) (by omega)
  have mm := ib_mxb8 (f := (a6 k).toInt) (lo := (a9 k).toInt) (hi := (a10 k).toInt) g.1 g.2 (by omega) (by omega) (by omega) (by omega)
  refine pk_le 3 k (fun t => absurd t (by omega)) (fun _ => ?_)
  rw [nI_clamp (show k < 2 ^ 31 by omega)]
  refine ⟨pk_in k 3 hk, br_c (fun z => ⟨pk_in k 3 hk, pk_in k 3 hk, nm_e (nm_r (nI_1 k) (H _ ?_ mm.1 mm.2))⟩) (fun z => ⟨pk_in k 3 hk, pk_in k 3 hk, nm_e (nm_r (nI_1 k) (H _ ?_ mm.1 mm.2))⟩)⟩
  · have e : (a6 k * a9 k).toInt = (a6 k).toInt * (a9 k).toInt := ib_mul (by omega) (by omega)
    rw [ib_add (by rw [e]; omega) (by rw [e]; omega), e]
    unfold ib_mx
    rw [if_pos (ib_le0.mp z)]
  · have e : (a6 k * a10 k).toInt = (a6 k).toInt * (a10 k).toInt := ib_mul (by omega) (by omega)
    rw [ib_add (by rw [e]; omega) (by rw [e]; omega), e]
    unfold ib_mx
    rw [if_neg (fun t => z (ib_le0.mpr t))]
theorem ib_goalBound {post : Int32 → Prop} (hg : ib_GC a6) (hb : ib_B a9 a10) (H : ∀ r : Int32, r.toInt = ib_gm a6 a9 a10 → -120 ≤ r.toInt → r.toInt ≤ 120 → post r) : wpX_goalBound post (l, ac, d, a1, a2, a3, a4, a5, a6, a7, a8, a9, a10, a11) := by
  unfold wpX_goalBound
  dsimp only
  have z0 := ib_z0
  refine ⟨4, ?_⟩
  refine ib_gb1 (k := 0) (by omega) hg hb (by omega) (by omega) (fun r1 e1 b1 c1 => ?_)
  refine ib_gb1 (k := 1) (by omega) hg hb (by omega) (by omega) (fun r2 e2 b2 c2 => ?_)
  refine ib_gb1 (k := 2) (by omega) hg hb (by omega) (by omega) (fun r3 e3 b3 c3 => ?_)
  refine pk_le 3 3 (fun _ => H r3 ?_ (by omega) (by omega)) (fun t => absurd t (by omega))
  unfold ib_gm
  omega
theorem ib_Gle {x : Nat → Int} (hx : ib_in a9 a10 x) : ib_G a6 x ≤ ib_gm a6 a9 a10 := by
  have e0 := (ib_tl (f := (a6 0).toInt) (hx 0 (by omega)).1 (hx 0 (by omega)).2).2
  have e1 := (ib_tl (f := (a6 1).toInt) (hx 1 (by omega)).1 (hx 1 (by omega)).2).2
  have e2 := (ib_tl (f := (a6 2).toInt) (hx 2 (by omega)).1 (hx 2 (by omega)).2).2
  unfold ib_G ib_gm
  omega
theorem ib_Gat (hE : ib_E a9 a10) : ∃ x, ib_in a9 a10 x ∧ ib_G a6 x = ib_gm a6 a9 a10 := by
  refine ⟨fun k => if (a6 k).toInt ≤ 0 then (a9 k).toInt else (a10 k).toInt, fun k hk => ?_, ?_⟩
  · have w := ib_E3 hE k hk
    dsimp only
    by_cases z : (a6 k).toInt ≤ 0
    · rw [if_pos z]
      omega
    · rw [if_neg z]
      omega
  · have m : ∀ f lo hi : Int, f * (if f ≤ 0 then lo else hi) = ib_mx f lo hi := fun f lo hi => by
      unfold ib_mx
      split <;> rfl
    unfold ib_G ib_gm
    dsimp only
    rw [m, m, m]
theorem ib_Gb {x : Nat → Int} (hg : ib_GC a6) (hb : ib_B a1 a2) (hx : ib_in a1 a2 x) : -120 ≤ ib_G a6 x := by
  have g0 := hg 0 (by omega)
  have g1 := hg 1 (by omega)
  have g2 := hg 2 (by omega)
  have b0 := hb 0 (by omega)
  have b1 := hb 1 (by omega)
  have b2 := hb 2 (by omega)
  have x0 := hx 0 (by omega)
  have x1 := hx 1 (by omega)
  have x2 := hx 2 (by omega)
  have m0 := ib_mb8 (a := (a6 0).toInt) (b := x 0) g0.1 g0.2 (by omega) (by omega)
  have m1 := ib_mb8 (a := (a6 1).toInt) (b := x 1) g1.1 g1.2 (by omega) (by omega)
  have m2 := ib_mb8 (a := (a6 2).toInt) (b := x 2) g2.1 g2.2 (by omega) (by omega)
  unfold ib_G
  omega
theorem ib_findGreatest {post : Int32 → St2 → Prop} {set : Int32} (hc : ib_C a3 a4) (hb : ib_B a1 a2) (hg : ib_GC a6)
    (H0 : (∀ x, ib_in a1 a2 x → ¬ ib_S a3 a4 set x) → ∀ (e' : Int32) (b7 b8 b9 b10 : Nat → Int32), post (-10000) (l, set, e', a1, a2, a3, a4, a5, a6, b7, b8, b9, b10, a11))
    (H1 : ∀ (r : Int32) (x : Nat → Int), ib_in a1 a2 x → ib_S a3 a4 set x → ib_G a6 x = r.toInt → (∀ y, ib_in a1 a2 y → ib_S a3 a4 set y → ib_G a6 y ≤ r.toInt) → ∀ (e' : Int32) (b7 b8 b9 b10 : Nat → Int32), post r (l, set, e', a1, a2, a3, a4, a5, a6, b7, b8, b9, b10, a11)) :
    wpX_findGreatest post (l, ac, d, a1, a2, a3, a4, a5, a6, a7, a8, a9, a10, a11) set := by
  have zn : (-10000 : Int32).toInt = -10000 := by decide
  unfold wpX_findGreatest
  dsimp only
  refine ib_begin (fun t7 t8 t9 t10 g7 g8 => ?_)
  have k1 := ib_K1 g7 g8 hb
  refine pk_loop (σ := Int32 × Nat × (Nat → Int32) × (Nat → Int32) × (Nat → Int32) × (Nat → Int32)) (fun n i s => wX_findGreatest_11 post n s.1 (nI i) l set (nI s.2.1) a1 a2 a3 a4 a5 a6 s.2.2.1 s.2.2.2.1 s.2.2.2.2.1 s.2.2.2.2.2 a11)
    (fun i s => ib_K s.2.2.1 s.2.2.2.1 s.2.1 ∧ i + ib_Ph s.2.2.1 s.2.2.2.1 s.2.1 ≤ 9825 ∧ ib_O1 (ib_S a3 a4 set) (fun x => ib_G a6 x ≤ s.1.toInt) a1 a2 s.2.2.1 s.2.2.2.1 s.2.1 ∧ ib_O2 a1 a2 s.2.2.1 s.2.2.2.1 s.2.1 ∧ (s.1 = -10000 ∨ ∃ x, ib_in a1 a2 x ∧ ib_S a3 a4 set x ∧ ib_G a6 x = s.1.toInt)) 12000 0 (-10000, 1, t7, t8, t9, t10) (by omega) ⟨k1.1, ?_, ?_, ?_, Or.inl rfl⟩ ?_ ?_
  · have := k1.2
    dsimp only
    omega
  · exact fun x hx _ => Or.inr ⟨0, Nat.lt_succ_self 0, (ib_bx1 g7 g8 x).mpr hx⟩
  · intro j hj x hx
    have hj' : j < 1 := hj
    have e : j = 0 := by omega
    subst e
    exact (ib_bx1 g7 g8 x).mp hx
  · intro n s hI
    have := hI.2.1
    exact absurd this (by omega)
  · intro n i s hi hI hw
    obtain ⟨q, e, s7, s8, s9, s10⟩ := s
    obtain ⟨hK, hP, h1, h2, h3⟩ := hI
    dsimp only at hK hP h1 h2 h3 ⊢
    refine pk_le 12000 i (fun t => absurd t (by omega)) (fun _ => ?_)
    cases e with
    | zero =>
      refine pk_le 0 0 (fun _ => ?_) (fun t => absurd t (by omega))
      have hy : ∀ y, ib_in a1 a2 y → ib_S a3 a4 set y → ib_G a6 y ≤ q.toInt := fun y hy hs => by
        rcases h1 y hy hs with t | ⟨j, hj, _⟩
        · exact t
        · exact absurd hj (by omega)
      rcases h3 with rfl | ⟨x, x1, x2, x3⟩
      · refine H0 (fun x hx hs => ?_) _ _ _ _ _
        have t1 := hy x hx hs
        have t2 := ib_Gb hg hb hx
        omega
      · exact H1 q x x1 x2 x3 hy _ _ _ _ _
    | succ e =>
      have he := ib_K_e hK
      have hd := ib_drop hK
      refine pk_le (e + 1) 0 (fun t => absurd t (by omega)) (fun _ => ?_)
      refine ib_pop (e := e) (by omega) (fun b c p1 p2 => ?_)
      have w1 : ∀ k, k < 3 → b k = ib_bx s7 e k := fun k hk => by rw [p1 k hk, ib_bxk k hk]
      have w2 : ∀ k, k < 3 → c k = ib_bx s8 e k := fun k hk => by rw [p2 k hk, ib_bxk k hk]
      refine ib_narrowAll hc (ib_Bc w1 w2 (hK e (by omega)).1) (fun b' c' hN0 hF => ?_)
      have hN := ib_Nc w1 w2 hN0
      have hd2 := hd.2
      refine ib_empty (fun hE => br_t rfl ?_) (fun hE => br_f ib_10 (nm_r (nI_1 i) ?_))
      · have hB := ib_NB (hK e (by omega)).1 hN hE
        refine ib_goalBound hg hB (fun r er br cr => ?_)
        have drop : ib_gm a6 b' c' ≤ q.toInt → wX_findGreatest_11 post n q (nI (i + 1)) l set (nI e) a1 a2 a3 a4 a5 a6 s7 s8 b' c' a11 := fun hq =>
          hw (q, e, s7, s8, b', c') ⟨hd.1, (by dsimp only; omega), ib_O1_d h1 (fun _ t => t) (fun x hx hs => Int.le_trans (ib_Gle (hN.2.2 x hx hs)) hq), fun j hj => h2 j (Nat.lt_succ_of_lt hj), h3⟩
        refine ib_free hc hN.1 (fun hfr => ?_) (fun j hj ha hgs => ?_)
        · refine br_c (fun z => br_t z (nm_r (nI_1 i) (drop ?_))) (fun z => br_f ib_10 (nm_r (nI_1 i) ?_))
          · have := ib_le.mp z
            omega
          · have z' : ¬ r.toInt ≤ q.toInt := fun t => z (ib_le.mpr t)
            refine hw (r, e, s7, s8, b', c') ⟨hd.1, (by dsimp only; omega), ib_O1_d h1 (fun x t => ?_) (fun x hx hs => ?_), fun j hj => h2 j (Nat.lt_succ_of_lt hj), Or.inr ?_⟩
            · dsimp only at t ⊢
              omega
            · have := ib_Gle (a6 := a6) (hN.2.2 x hx hs)
              dsimp only
              omega
            · obtain ⟨x, x1, x2⟩ := ib_Gat (a6 := a6) hE
              exact ⟨x, h2 e (by omega) x (ib_Nin hN x1), ib_frS hfr x1, by dsimp only; omega⟩
        · have cut : ¬ r ≤ q → wX_findGreatest_69 post (wX_findGreatest_11 post n) q (nI i) r l set (nI e) a1 a2 a3 a4 a5 a6 s7 s8 b' c' a11 := fun z => by
            unfold wX_findGreatest_69
            refine br_f z (ib_cutX (by omega) hB (ib_ne (hF hE) hj ha hgs) (fun v m b7 b8 h7 h8 hX => nm_r (nI_1 i) ?_))
            have q2 := ib_two hK hN hE h7 h8 hX
            have q3 := q2.2
            exact hw (q, e + 2, b7, b8, b', c') ⟨q2.1, (by dsimp only; omega), ib_O1_2 h1 hN h7 h8 hX, ib_O2_2 h2 hN h7 h8 hX, h3⟩
          refine br_c (fun z => br_t z (nm_r (nI_1 i) (drop ?_))) (fun z => br_t rfl (cut z))
          have := ib_le.mp z
          omega
      · exact hw (q, e, s7, s8, b', c') ⟨hd.1, (by dsimp only; omega), ib_O1_d h1 (fun _ t => t) (fun x hx hs => absurd (ib_Ein (hN.2.2 x hx hs)) hE), fun j hj => h2 j (Nat.lt_succ_of_lt hj), h3⟩
end
end
section
section
variable {l ac d : Int32} {a1 a2 a3 a4 a5 a6 a7 a8 a9 a10 a11 : Nat → Int32}
theorem ib_init {post : St2 → Prop} {mc ms : Nat} {u : St1} (h1 : 11 ≤ mc) (h2 : 248 ≤ ms)
    (H : ∀ b1 b2 : Nat → Int32, (∀ k, k < 3 → b1 k = -8) → (∀ k, k < 3 → b2 k = 8) → post (u.1, u.2.1, u.2.2, b1, b2, fun _ => 0, fun _ => 0, fun _ => 0, fun _ => 0, fun _ => 0, fun _ => 0, fun _ => 0, fun _ => 0, fun _ => 0)) :
    wpX_init post mc ms u := by
  obtain ⟨l, ac, d⟩ := u
  unfold wpX_init
  dsimp only
  refine ⟨by omega, by omega, by omega, by omega, by omega, by omega, by omega, by omega, by omega, by omega, by omega, by omega, by omega, by omega, by omega, by omega, by omega, by omega, by omega, by omega, by omega, by omega, ?_⟩
  refine pk_loop (σ := (Nat → Int32) × (Nat → Int32)) (fun n i s => wX_init_88 post mc ms 11 248 l ac d n (nI i) s.1 s.2 (fun _ => 0) (fun _ => 0) (fun _ => 0) (fun _ => 0) (fun _ => 0) (fun _ => 0) (fun _ => 0) (fun _ => 0) (fun _ => 0))
    (fun i s => (∀ k, k < i → s.1 k = -8) ∧ (∀ k, k < i → s.2 k = 8)) 3 0 (fun _ => 0, fun _ => 0) (by omega) ⟨fun k hk => absurd hk (by omega), fun k hk => absurd hk (by omega)⟩ ?_ ?_
  · intro n s hI
    exact pk_le 3 3 (fun _ => H _ _ hI.1 hI.2) (fun t => absurd t (by omega))
  · intro n i s hi hI hw
    refine pk_le 3 i (fun t => absurd t (by omega)) (fun _ => ?_)
    rw [nI_clamp (show i < 2 ^ 31 by omega)]
    exact ⟨pk_in i 3 hi, nm_e ⟨pk_in i 3 hi, nm_e (nm_r (nI_1 i) (hw (_, _) ⟨ib_fill0 (g := fun _ => -8) hI.1 rfl, ib_fill0 (g := fun _ => 8) hI.2 rfl⟩))⟩⟩
/-- the v-th factor of f -/
def ib_fo (f : Int32) (k : Nat) : Int32 := ((f >>> ((4 * nI k) &&& 31)) &&& 15) - 5
def ib_fx (f : Int32) (x : Nat → Int) : Int := (ib_fo f 0).toInt * x 0 + (ib_fo f 1).toInt * x 1 + (ib_fo f 2).toInt * x 2
def ib_ok (f : Int32) : Prop := ∀ k, k < 3 → -5 ≤ (ib_fo f k).toInt ∧ (ib_fo f k).toInt ≤ 5
theorem ib_z5 : (5 : Int32).toInt = 5 := by decide
theorem ib_badF0 {post : Int32 → Prop} {f : Int32} (h : ib_ok f) (H : post 0) : wpX_badFactors post () f := by
  unfold wpX_badFactors
  refine pk_loop (σ := Unit) (fun n i _ => wX_badFactors_2 post f n (nI i)) (fun _ _ => True) 3 0 () (by omega) trivial ?_ ?_
  · intro n _ _
    exact pk_le 3 3 (fun _ => H) (fun t => absurd t (by omega))
  · intro n i _ hi _ hw
    refine pk_le 3 i (fun t => absurd t (by omega)) (fun _ => ?_)
    unfold wpX_factorOf
    exact br_t (ib_le.mpr (by rw [ib_z5]; exact (h i hi).2)) (nm_r (nI_1 i) (hw () trivial))
theorem ib_badF1 {post : Int32 → Prop} {f : Int32} (h : ¬ (ib_fo f 0).toInt ≤ 5) (H : post 1) : wpX_badFactors post () f := by
  unfold wpX_badFactors
  refine ⟨1, pk_le 3 0 (fun t => absurd t (by omega)) (fun _ => ?_)⟩
  unfold wpX_factorOf
  exact br_f (fun t => h (by have := ib_le.mp t; rw [ib_z5] at this; exact this)) H
theorem ib_setLimit {post : St2 → Prop} {n : Nat} {f dd : Int32} (hn : n < 8)
    (H : ∀ b3 : Nat → Int32, (∀ j, j < 3 * n ∨ 3 * n + 3 ≤ j → b3 j = a3 j) → (∀ k, k < 3 → b3 (3 * n + k) = ib_fo f k) → post (l, ac, d, a1, a2, b3, upd a4 n dd, a5, a6, a7, a8, a9, a10, a11)) :
    wpX_setLimit post (l, ac, d, a1, a2, a3, a4, a5, a6, a7, a8, a9, a10, a11) (nI n) f dd := by
  unfold wpX_setLimit
  dsimp only
  refine pk_loop (fun m i s => wX_setLimit_3 post (nI n) f dd l ac d m (nI i) a1 a2 s a4 a5 a6 a7 a8 a9 a10 a11) (fun i s => (∀ j, j < 3 * n ∨ 3 * n + 3 ≤ j → s j = a3 j) ∧ (∀ k, k < i → s (3 * n + k) = ib_fo f k)) 3 0 a3 (by omega) ⟨fun _ _ => rfl, fun k hk => absurd hk (by omega)⟩ ?_ ?_
  · intro m s hI
    refine pk_le 3 3 (fun _ => ⟨pk_in n 8 hn, nm_r (by rw [nI_clamp (by omega)]) (H s hI.1 hI.2)⟩) (fun t => absurd t (by omega))
  · intro m i s hi hI hw
    refine pk_le 3 i (fun t => absurd t (by omega)) (fun _ => ?_)
    unfold wpX_factorOf
    rw [ib_ix, nI_clamp (show 3 * n + i < 2 ^ 31 by omega)]
    refine ⟨pk_in (3 * n + i) 24 (by omega), nm_e (nm_r (nI_1 i) (hw _ ⟨fun j hj => ?_, ib_fill hI.2 rfl⟩))⟩
    rw [pk_un (by omega)]
    exact hI.1 j hj
theorem ib_100 : (100 : Int32).toInt = 100 := by decide
theorem ib_m100 : (-100 : Int32).toInt = -100 := by decide
theorem ib_limit {post : Int32 → St2 → Prop} {n : Nat} {f dd : Int32} (hn : n < 6) (hf : ib_ok f) (hd1 : -100 ≤ dd.toInt) (hd2 : dd.toInt ≤ 100)
    (H : ∀ b3 : Nat → Int32, (∀ j, j < 3 * n ∨ 3 * n + 3 ≤ j → b3 j = a3 j) → (∀ k, k < 3 → b3 (3 * n + k) = ib_fo f k) → post (nI n) (nI (n + 1), ac, d, a1, a2, b3, upd a4 n dd, upd a5 n 1, a6, a7, a8, a9, a10, a11)) :
    wpX_limit post (nI n, ac, d, a1, a2, a3, a4, a5, a6, a7, a8, a9, a10, a11) f dd := by
  unfold wpX_limit
  dsimp only
  refine ib_badF0 hf (br_t rfl (br_f (fun t => ?_) (br_t (ib_le.mpr (by rw [ib_100]; exact hd2)) (pk_lt n 6 (fun _ => ?_) (fun t => absurd t (by omega))))))
  · have := ib_lt.mp t
    rw [ib_m100] at this
    omega
  · refine ib_setLimit (by omega) (fun b3 h1 h2 => ⟨pk_in n 6 hn, ?_⟩)
    rw [nI_clamp (show n < 2 ^ 31 by omega)]
    refine nm_e (nm_r (nI_1 n) ?_)
    rw [nI_pred]
    exact H b3 h1 h2
theorem ib_limit_f {post : Int32 → St2 → Prop} {f dd : Int32} (h : ¬ (ib_fo f 0).toInt ≤ 5) (H : post (-2) (l, ac, d, a1, a2, a3, a4, a5, a6, a7, a8, a9, a10, a11)) : wpX_limit post (l, ac, d, a1, a2, a3, a4, a5, a6, a7, a8, a9, a10, a11) f dd := by
  unfold wpX_limit
  dsimp only
  exact ib_badF1 h (br_f ib_10 H)
theorem ib_limit_n {post : Int32 → St2 → Prop} {f dd : Int32} (hf : ib_ok f) (hd : ¬ dd.toInt ≤ 100) (H : post (-3) (l, ac, d, a1, a2, a3, a4, a5, a6, a7, a8, a9, a10, a11)) : wpX_limit post (l, ac, d, a1, a2, a3, a4, a5, a6, a7, a8, a9, a10, a11) f dd := by
  unfold wpX_limit
  dsimp only
  refine ib_badF0 hf (br_t rfl (br_f (fun t => ?_) (br_f (fun t => hd (by have := ib_le.mp t; rw [ib_100] at this; exact this)) H)))
  have := ib_lt.mp t
  rw [ib_m100] at this
  omega
theorem ib_limit_6 {post : Int32 → St2 → Prop} {f dd : Int32} (hf : ib_ok f) (hd1 : -100 ≤ dd.toInt) (hd2 : dd.toInt ≤ 100) (H : post (-4) (nI 6, ac, d, a1, a2, a3, a4, a5, a6, a7, a8, a9, a10, a11)) : wpX_limit post (nI 6, ac, d, a1, a2, a3, a4, a5, a6, a7, a8, a9, a10, a11) f dd := by
  unfold wpX_limit
  dsimp only
  refine ib_badF0 hf (br_t rfl (br_f (fun t => ?_) (br_t (ib_le.mpr (by rw [ib_100]; exact hd2)) (pk_lt 6 6 (fun t => absurd t (by omega)) (fun _ => H)))))
  have := ib_lt.mp t
  rw [ib_m100] at this
  omega
/-- the limits that are on, as bits -/
def ib_on (a5 : Nat → Int32) : Nat → Int32
  | 0 => 0
  | n + 1 => if a5 n = 0 then ib_on a5 n else ib_on a5 n ||| ((1 : Int32) <<< (nI n &&& 31))
theorem ib_on_c {a b : Nat → Int32} {n : Nat} (h : ∀ i, i < n → a i = b i) : ib_on a n = ib_on b n := by
  induction n with
  | zero => rfl
  | succ n ih =>
    unfold ib_on
    rw [h n (by omega), ih (fun i hi => h i (by omega))]
theorem ib_limitsOn {post : Int32 → Prop} {n : Nat} (hn : n ≤ 6) (H : post (ib_on a5 n)) : wpX_limitsOn post (nI n, ac, d, a1, a2, a3, a4, a5, a6, a7, a8, a9, a10, a11) := by
  unfold wpX_limitsOn
  dsimp only
  refine pk_loop (σ := Unit) (fun m i _ => wX_limitsOn_4 post (nI n) ac d a1 a2 a3 a4 a5 a6 a7 a8 a9 a10 a11 m (ib_on a5 i) (nI i)) (fun _ _ => True) n 0 () (by omega) trivial ?_ ?_
  · intro m _ _
    exact pk_le n n (fun _ => H) (fun t => absurd t (by omega))
  · intro m i _ hi _ hw
    have t := hw () trivial
    refine pk_le n i (fun t => absurd t (by omega)) (fun _ => ⟨pk_in i 6 (by omega), ?_⟩)
    rw [nI_clamp (show i < 2 ^ 31 by omega)]
    refine br_c (fun z => nm_r (nI_1 i) ?_) (fun z => nm_e (nm_r (nI_1 i) ?_))
    · unfold ib_on at t
      rw [if_pos z] at t
      exact t
    · unfold ib_on at t
      rw [if_neg z] at t
      exact t
theorem ib_points {post : Int32 → St2 → Prop} {n : Nat} (hn : n ≤ 6) (hc : ib_C a3 a4) (hb : ib_B a1 a2)
    (H : ∀ (ac' e' : Int32) (b7 b8 b9 b10 : Nat → Int32), post (nI (ib_cn (fun x => ib_in a1 a2 x ∧ ib_S a3 a4 (ib_on a5 n) x))) (nI n, ac', e', a1, a2, a3, a4, a5, a6, b7, b8, b9, b10, a11)) :
    wpX_points post (nI n, ac, d, a1, a2, a3, a4, a5, a6, a7, a8, a9, a10, a11) := by
  unfold wpX_points
  dsimp only
  exact ib_limitsOn hn (ib_count hc hb (fun e' b7 b8 b9 b10 => H _ e' b7 b8 b9 b10))
theorem ib_badV {post : Int32 → Prop} {v : Nat} (hv : v < 3) (H : post 0) : wpX_badVariable post () (nI v) := by
  unfold wpX_badVariable
  exact pk_lt v 0 (fun t => absurd t (by omega)) (fun _ => pk_lt v 3 (fun _ => H) (fun t => absurd t (by omega)))
theorem ib_badV3 {post : Int32 → Prop} (H : post 1) : wpX_badVariable post () 3 := by
  unfold wpX_badVariable
  exact pk_lt 3 0 (fun t => absurd t (by omega)) (fun _ => pk_lt 3 3 (fun t => absurd t (by omega)) (fun _ => H))
theorem ib_first {post : Int32 → St2 → Prop} {n v : Nat} (hn : n ≤ 6) (hv : v < 3) (hc : ib_C a3 a4) (hb : ib_B a1 a2)
    (H0 : (∀ x, ib_in a1 a2 x → ¬ ib_S a3 a4 (ib_on a5 n) x) → ∀ (ac' e' : Int32) (b7 b8 b9 b10 : Nat → Int32), post (-10000) (nI n, ac', e', a1, a2, a3, a4, a5, a6, b7, b8, b9, b10, a11))
    (H1 : ∀ x, ib_in a1 a2 x → ib_S a3 a4 (ib_on a5 n) x → (∀ y, ib_in a1 a2 y → ib_S a3 a4 (ib_on a5 n) y → ib_lf x y) → ∀ (w ac' e' : Int32) (b7 b8 b9 b10 b11 : Nat → Int32), w.toInt = x v → post w (nI n, ac', e', a1, a2, a3, a4, a5, a6, b7, b8, b9, b10, b11)) :
    wpX_first post (nI n, ac, d, a1, a2, a3, a4, a5, a6, a7, a8, a9, a10, a11) (nI v) := by
  unfold wpX_first
  dsimp only
  refine ib_badV hv (br_t rfl (ib_limitsOn hn (ib_findFirst hc hb (fun h e' b7 b8 b9 b10 => br_t rfl (H0 h _ e' b7 b8 b9 b10)) (fun x h1 h2 h3 e' b7 b8 b9 b10 b11 h11 => br_f ib_10 ⟨pk_in v 3 hv, ?_⟩))))
  refine H1 x h1 h2 h3 _ _ e' b7 b8 b9 b10 b11 ?_
  rw [nI_clamp (show v < 2 ^ 31 by omega)]
  exact h11 v hv
theorem ib_greatest {post : Int32 → St2 → Prop} {n : Nat} {f : Int32} (hn : n ≤ 6) (hf : ib_ok f) (hc : ib_C a3 a4) (hb : ib_B a1 a2)
    (H0 : (∀ x, ib_in a1 a2 x → ¬ ib_S a3 a4 (ib_on a5 n) x) → ∀ (ac' e' : Int32) (b6 b7 b8 b9 b10 : Nat → Int32), post (-10000) (nI n, ac', e', a1, a2, a3, a4, a5, b6, b7, b8, b9, b10, a11))
    (H1 : ∀ (r : Int32) (x : Nat → Int), ib_in a1 a2 x → ib_S a3 a4 (ib_on a5 n) x → ib_fx f x = r.toInt → (∀ y, ib_in a1 a2 y → ib_S a3 a4 (ib_on a5 n) y → ib_fx f y ≤ r.toInt) → ∀ (ac' e' : Int32) (b6 b7 b8 b9 b10 : Nat → Int32), post r (nI n, ac', e', a1, a2, a3, a4, a5, b6, b7, b8, b9, b10, a11)) :
    wpX_greatest post (nI n, ac, d, a1, a2, a3, a4, a5, a6, a7, a8, a9, a10, a11) f := by
  unfold wpX_greatest
  dsimp only
  refine ib_badF0 hf (br_t rfl ?_)
  refine pk_loop (fun m i s => wX_greatest_12 post f (nI n) ac d m (nI i) a1 a2 a3 a4 a5 s a7 a8 a9 a10 a11) (fun i s => ∀ k, k < i → s k = ib_fo f k) 3 0 a6 (by omega) (fun k hk => absurd hk (by omega)) ?_ ?_
  · intro m s hI
    have e : ∀ x, ib_G s x = ib_fx f x := fun x => by
      unfold ib_G ib_fx
      rw [hI 0 (by omega), hI 1 (by omega), hI 2 (by omega)]
    refine pk_le 3 3 (fun _ => ib_limitsOn hn (ib_findGreatest hc hb (fun k hk => ?_) (fun h e' b7 b8 b9 b10 => H0 h _ e' _ b7 b8 b9 b10) (fun r x h1 h2 h3 h4 e' b7 b8 b9 b10 => H1 r x h1 h2 (by rw [← e]; exact h3) (fun y hy hs => by rw [← e]; exact h4 y hy hs) _ e' _ b7 b8 b9 b10))) (fun t => absurd t (by omega))
    rw [hI k hk]
    exact hf k hk
  · intro m i s hi hI hw
    refine pk_le 3 i (fun t => absurd t (by omega)) (fun _ => ?_)
    unfold wpX_factorOf
    rw [nI_clamp (show i < 2 ^ 31 by omega)]
    exact ⟨pk_in i 3 hi, nm_e (nm_r (nI_1 i) (hw _ (ib_fill0 hI rfl)))⟩
theorem ib_greatest_f {post : Int32 → St2 → Prop} {f : Int32} (h : ¬ (ib_fo f 0).toInt ≤ 5) (H : post (-2) (l, ac, d, a1, a2, a3, a4, a5, a6, a7, a8, a9, a10, a11)) : wpX_greatest post (l, ac, d, a1, a2, a3, a4, a5, a6, a7, a8, a9, a10, a11) f := by
  unfold wpX_greatest
  dsimp only
  exact ib_badF1 h (br_f ib_10 H)
theorem ib_follows {post : Int32 → St2 → Prop} {n : Nat} {f dd : Int32} (hn : n ≤ 6) (hf : ib_ok f) (hc : ib_C a3 a4) (hb : ib_B a1 a2)
    (H0 : (∀ x, ib_in a1 a2 x → ib_S a3 a4 (ib_on a5 n) x → ib_fx f x ≤ dd.toInt) → ∀ (ac' e' : Int32) (b6 b7 b8 b9 b10 : Nat → Int32), post 1 (nI n, ac', e', a1, a2, a3, a4, a5, b6, b7, b8, b9, b10, a11))
    (H1 : ∀ x, ib_in a1 a2 x → ib_S a3 a4 (ib_on a5 n) x → ¬ ib_fx f x ≤ dd.toInt → ∀ (ac' e' : Int32) (b6 b7 b8 b9 b10 : Nat → Int32), post 0 (nI n, ac', e', a1, a2, a3, a4, a5, b6, b7, b8, b9, b10, a11)) :
    wpX_follows post (nI n, ac, d, a1, a2, a3, a4, a5, a6, a7, a8, a9, a10, a11) f dd := by
  unfold wpX_follows
  dsimp only
  refine ib_badF0 hf (br_t rfl (ib_greatest hn hf hc hb (fun h ac' e' b6 b7 b8 b9 b10 => br_t rfl (H0 (fun x h1 h2 => absurd h2 (h x h1)) ac' e' b6 b7 b8 b9 b10)) (fun r x h1 h2 h3 h4 ac' e' b6 b7 b8 b9 b10 => ?_)))
  refine br_c (fun z => H0 (fun y hy hs => ?_) ac' e' b6 b7 b8 b9 b10) (fun _ => br_c (fun z => H1 x h1 h2 (fun t => ?_) ac' e' b6 b7 b8 b9 b10) (fun z => H0 (fun y hy hs => ?_) ac' e' b6 b7 b8 b9 b10))
  · exfalso
    have zn : (-10000 : Int32).toInt = -10000 := by decide
    have g0 := hf 0 (by omega)
    have g1 := hf 1 (by omega)
    have g2 := hf 2 (by omega)
    have q0 := hb 0 (by omega)
    have q1 := hb 1 (by omega)
    have q2 := hb 2 (by omega)
    have x0 := h1 0 (by omega)
    have x1 := h1 1 (by omega)
    have x2 := h1 2 (by omega)
    have m0 := ib_mb8 (a := (ib_fo f 0).toInt) (b := x 0) g0.1 g0.2 (by omega) (by omega)
    have m1 := ib_mb8 (a := (ib_fo f 1).toInt) (b := x 1) g1.1 g1.2 (by omega) (by omega)
    have m2 := ib_mb8 (a := (ib_fo f 2).toInt) (b := x 2) g2.1 g2.2 (by omega) (by omega)
    unfold ib_fx at h3
    rw [z, zn] at h3
    omega
  · have z' := ib_lt.mp z
    omega
  · have z' : ¬ dd.toInt < r.toInt := fun t => z (ib_lt.mpr t)
    have := h4 y hy hs
    omega
end
end
section
section
variable {l ac d : Int32} {a1 a2 a3 a4 a5 a6 a7 a8 a9 a10 a11 : Nat → Int32}
theorem ib_noL0 {post : Int32 → Prop} {i n : Nat} (hi : i < n) (hn : n ≤ 6) (H : post 0) : wpX_noLimit post (nI n, ac, d, a1, a2, a3, a4, a5, a6, a7, a8, a9, a10, a11) (nI i) := by
  unfold wpX_noLimit
  dsimp only
  exact pk_lt i 0 (fun t => absurd t (by omega)) (fun _ => pk_lt i n (fun _ => H) (fun t => absurd t (by omega)))
theorem ib_noL1 {post : Int32 → Prop} {i n : Nat} (hi : n ≤ i) (hn : i < 100) (H : post 1) : wpX_noLimit post (nI n, ac, d, a1, a2, a3, a4, a5, a6, a7, a8, a9, a10, a11) (nI i) := by
  unfold wpX_noLimit
  dsimp only
  exact pk_lt i 0 (fun t => absurd t (by omega)) (fun _ => pk_lt i n (fun t => absurd t (by omega)) (fun _ => H))
theorem ib_turn {post : Int32 → St2 → Prop} {i n : Nat} {b b' : Int32} (hi : i < n) (hn : n ≤ 6) (hon : ¬ a5 i = 0) (hb : vp_nar .boolean b = b') (H : post 1 (nI n, ac, d, a1, a2, a3, a4, upd a5 i b', a6, a7, a8, a9, a10, a11)) : wpX_turn post (nI n, ac, d, a1, a2, a3, a4, a5, a6, a7, a8, a9, a10, a11) (nI i) b := by
  unfold wpX_turn
  dsimp only
  refine ib_noL0 hi hn (br_t rfl ⟨pk_in i 6 (by omega), ?_⟩)
  rw [nI_clamp (show i < 2 ^ 31 by omega)]
  refine br_f hon ?_
  unfold wX_turn_25
  refine ⟨pk_in i 6 (by omega), nm_r ?_ H⟩
  rw [nI_clamp (show i < 2 ^ 31 by omega), hb]
theorem ib_relax {post : Int32 → St2 → Prop} {i n : Nat} {dd : Int32} (hi : i < n) (hn : n ≤ 6) (hd1 : -100 ≤ dd.toInt) (hd2 : dd.toInt ≤ 100) (H : post (a4 i) (nI n, ac, d, a1, a2, a3, upd a4 i dd, a5, a6, a7, a8, a9, a10, a11)) : wpX_relax post (nI n, ac, d, a1, a2, a3, a4, a5, a6, a7, a8, a9, a10, a11) (nI i) dd := by
  unfold wpX_relax
  dsimp only
  refine ib_noL0 hi hn (br_t rfl (br_f (fun t => ?_) (br_t (ib_le.mpr (by rw [ib_100]; exact hd2)) ?_)))
  · have := ib_lt.mp t
    rw [ib_m100] at this
    omega
  · rw [nI_clamp (show i < 2 ^ 31 by omega)]
    exact ⟨pk_in i 8 (by omega), nm_e ⟨pk_in i 8 (by omega), nm_e H⟩⟩
theorem ib_relax_l {post : Int32 → St2 → Prop} {i n : Nat} {dd : Int32} (hi : n ≤ i) (hn : i < 100) (H : post (-5) (nI n, ac, d, a1, a2, a3, a4, a5, a6, a7, a8, a9, a10, a11)) : wpX_relax post (nI n, ac, d, a1, a2, a3, a4, a5, a6, a7, a8, a9, a10, a11) (nI i) dd := by
  unfold wpX_relax
  dsimp only
  exact ib_noL1 hi hn (br_f ib_10 H)
theorem ib_relax_n {post : Int32 → St2 → Prop} {i n : Nat} {dd : Int32} (hi : i < n) (hn : n ≤ 6) (hd : dd.toInt < -100) (H : post (-3) (nI n, ac, d, a1, a2, a3, a4, a5, a6, a7, a8, a9, a10, a11)) : wpX_relax post (nI n, ac, d, a1, a2, a3, a4, a5, a6, a7, a8, a9, a10, a11) (nI i) dd := by
  unfold wpX_relax
  dsimp only
  exact ib_noL0 hi hn (br_t rfl (br_t (ib_lt.mpr (by rw [ib_m100]; exact hd)) H))
theorem ib_dropM {post : Int32 → St2 → Prop} {n : Nat} (hn : n < 6) (H : post (nI n) (nI n, ac, d, a1, a2, a3, a4, a5, a6, a7, a8, a9, a10, a11)) : wpX_drop post (nI (n + 1), ac, d, a1, a2, a3, a4, a5, a6, a7, a8, a9, a10, a11) := by
  unfold wpX_drop
  dsimp only
  exact pk_eq (n + 1) 0 (fun t => absurd t (by omega)) (fun _ => nm_r (nI_pred n) H)
theorem ib_drop0 {post : Int32 → St2 → Prop} (H : post (-5) (nI 0, ac, d, a1, a2, a3, a4, a5, a6, a7, a8, a9, a10, a11)) : wpX_drop post (nI 0, ac, d, a1, a2, a3, a4, a5, a6, a7, a8, a9, a10, a11) := by
  unfold wpX_drop
  dsimp only
  exact br_t rfl H
def ib_f (a3 : Nat → Int32) (i : Nat) (x : Nat → Int) : Int := (a3 (3 * i + 0)).toInt * x 0 + (a3 (3 * i + 1)).toInt * x 1 + (a3 (3 * i + 2)).toInt * x 2
theorem ib_f_c {a b : Nat → Int32} {i j : Nat} (h : ∀ k, k < 3 → a (3 * i + k) = b (3 * j + k)) (x : Nat → Int) : ib_f a i x = ib_f b j x := by
  unfold ib_f
  rw [h 0 (by omega), h 1 (by omega), h 2 (by omega)]
theorem ib_tight {post : Int32 → St2 → Prop} {i n : Nat} {set : Int32} (hi : i < n) (hn : n ≤ 6) (hc : ib_C a3 a4) (hb : ib_B a1 a2) (hs : ib_on a5 n = set)
    (hs1 : ∀ j, j < 6 → (ib_act (set ||| 192) j ↔ ib_act set j)) (hs2 : ∀ j, j < 8 → 6 ≤ j → ib_act (set ||| 192) j ∧ ¬ ib_act set j)
    (H : ∀ b3 b4 : Nat → Int32, (∀ j, j < 18 → b3 j = a3 j) → (∀ j, j < 6 → b4 j = a4 j) → ib_C b3 b4 → ∀ (ac' e' : Int32) (b7 b8 b9 b10 : Nat → Int32),
      post (nI (ib_cn (fun x => ib_in a1 a2 x ∧ ib_S a3 a4 set x ∧ ib_f a3 i x = (a4 i).toInt))) (nI n, ac', e', a1, a2, b3, b4, a5, a6, b7, b8, b9, b10, a11)) :
    wpX_tight post (nI n, ac, d, a1, a2, a3, a4, a5, a6, a7, a8, a9, a10, a11) (nI i) := by
  have e18 : ∀ k : Nat, (18 : Int32) + nI k = nI (18 + k) := fun k => nI_add 18 k
  have e21 : ∀ k : Nat, (21 : Int32) + nI k = nI (21 + k) := fun k => nI_add 21 k
  unfold wpX_tight
  dsimp only
  refine ib_noL0 hi hn (br_t rfl ?_)
  refine pk_loop (fun m k s => wX_tight_13 post (nI i) (nI n) ac d m (nI k) a1 a2 s a4 a5 a6 a7 a8 a9 a10 a11) (fun k s => (∀ j, j < 18 → s j = a3 j) ∧ (∀ k', k' < k → s (18 + k') = a3 (3 * i + k')) ∧ (∀ k', k' < k → s (21 + k') = -(a3 (3 * i + k'))) ∧ (∀ j, 18 + k ≤ j → j < 21 → s j = a3 j) ∧ (∀ j, 21 + k ≤ j → j < 24 → s j = a3 j)) 3 0 a3 (by omega)
    ⟨fun _ _ => rfl, fun k hk => absurd hk (by omega), fun k hk => absurd hk (by omega), fun _ _ _ => rfl, fun _ _ _ => rfl⟩ ?_ ?_
  · intro m s hI
    obtain ⟨h1, h2, h3, h4, h5⟩ := hI
    have hf : ∀ k, k < 3 → -5 ≤ (a3 (3 * i + k)).toInt ∧ (a3 (3 * i + k)).toInt ≤ 5 := fun k hk => hc.1 _ (by omega)
    have hB := hc.2 i (by omega)
    have en : ∀ k, k < 3 → (-(a3 (3 * i + k))).toInt = -(a3 (3 * i + k)).toInt := fun k hk => ib_neg (by have := hf k hk; omega) (by have := hf k hk; omega)
    have enB : (-(a4 i)).toInt = -(a4 i).toInt := ib_neg (by omega) (by omega)
    have hC : ib_C s (upd (upd a4 6 (a4 i)) 7 (-(a4 i))) := by
      refine ⟨fun j hj => ?_, fun j hj => ?_⟩
      · by_cases w1 : j < 18
        · rw [h1 j w1]
          exact hc.1 j hj
        · by_cases w2 : j < 21
          · have := h2 (j - 18) (by omega)
            rw [show 18 + (j - 18) = j by omega] at this
            rw [this]
            exact hf _ (by omega)
          · have := h3 (j - 21) (by omega)
            rw [show 21 + (j - 21) = j by omega] at this
            rw [this, en _ (by omega)]
            have := hf (j - 21) (by omega)
            omega
      · by_cases w1 : j = 7
        · rw [w1, pk_us, enB]
          omega
        · rw [pk_un w1]
          by_cases w2 : j = 6
          · rw [w2, pk_us]
            omega
          · rw [pk_un w2]
            exact hc.2 j hj
    have hS : ∀ x, ib_S s (upd (upd a4 6 (a4 i)) 7 (-(a4 i))) (set ||| 192) x ↔ ib_S a3 a4 set x ∧ ib_f a3 i x = (a4 i).toInt := by
      intro x
      have L1 : ∀ j, j < 6 → (ib_L s (upd (upd a4 6 (a4 i)) 7 (-(a4 i))) j x ↔ ib_L a3 a4 j x) := fun j hj => by
        unfold ib_L
        rw [h1 _ (by omega), h1 _ (by omega), h1 _ (by omega), pk_un (by omega), pk_un (by omega)]
      have L6 : ib_L s (upd (upd a4 6 (a4 i)) 7 (-(a4 i))) 6 x ↔ ib_f a3 i x ≤ (a4 i).toInt := by
        unfold ib_L ib_f
        rw [pk_un (show (6 : Nat) ≠ 7 by decide), pk_us, show 3 * 6 + 0 = 18 + 0 from rfl, show 3 * 6 + 1 = 18 + 1 from rfl, show 3 * 6 + 2 = 18 + 2 from rfl, h2 0 (by omega), h2 1 (by omega), h2 2 (by omega)]
      have L7 : ib_L s (upd (upd a4 6 (a4 i)) 7 (-(a4 i))) 7 x ↔ (a4 i).toInt ≤ ib_f a3 i x := by
        unfold ib_L ib_f
        rw [pk_us, show 3 * 7 + 0 = 21 + 0 from rfl, show 3 * 7 + 1 = 21 + 1 from rfl, show 3 * 7 + 2 = 21 + 2 from rfl, h3 0 (by omega), h3 1 (by omega), h3 2 (by omega), enB, en 0 (by omega), en 1 (by omega), en 2 (by omega), Int.neg_mul, Int.neg_mul, Int.neg_mul]
        omega
      constructor
      · intro h
        refine ⟨fun j hj ha => ?_, ?_⟩
        · by_cases w : j < 6
          · exact (L1 j w).mp (h j hj ((hs1 j w).mpr ha))
          · exact absurd ha (hs2 j hj (by omega)).2
        · have q6 := L6.mp (h 6 (by omega) (hs2 6 (by omega) (by omega)).1)
          have q7 := L7.mp (h 7 (by omega) (hs2 7 (by omega) (by omega)).1)
          omega
      · intro h j hj ha
        by_cases w : j < 6
        · exact (L1 j w).mpr (h.1 j hj ((hs1 j w).mp ha))
        · by_cases w6 : j = 6
          · rw [w6]
            exact L6.mpr (Int.le_of_eq h.2)
          · have w7 : j = 7 := by omega
            rw [w7]
            exact L7.mpr (Int.le_of_eq h.2.symm)
    refine pk_le 3 3 (fun _ => ?_) (fun t => absurd t (by omega))
    rw [nI_clamp (show i < 2 ^ 31 by omega)]
    refine ⟨pk_in i 8 (by omega), nm_e ⟨pk_in i 8 (by omega), nm_r (by rw [pk_un (show i ≠ 6 by omega)]) ?_⟩⟩
    refine ib_limitsOn hn (ib_count hC hb (fun e' b7 b8 b9 b10 => ?_))
    have e : ib_cn (fun x => ib_in a1 a2 x ∧ ib_S s (upd (upd a4 6 (a4 i)) 7 (-(a4 i))) (ib_on a5 n ||| 192) x) = ib_cn (fun x => ib_in a1 a2 x ∧ ib_S a3 a4 set x ∧ ib_f a3 i x = (a4 i).toInt) := by
      rw [hs]
      exact ib_cn_c (fun x _ => ⟨fun h => ⟨h.1, (hS x).mp h.2⟩, fun h => ⟨h.1, (hS x).mpr h.2⟩⟩)
    rw [e]
    exact H _ _ h1 (fun j hj => by rw [pk_un (by omega), pk_un (by omega)]) hC _ _ _ _ _ _
  · intro m k s hk hI hw
    obtain ⟨h1, h2, h3, h4, h5⟩ := hI
    refine pk_le 3 k (fun t => absurd t (by omega)) (fun _ => ?_)
    rw [ib_ix, e18, e21, nI_clamp (show 3 * i + k < 2 ^ 31 by omega), nI_clamp (show 18 + k < 2 ^ 31 by omega), nI_clamp (show 21 + k < 2 ^ 31 by omega)]
    refine ⟨pk_in (3 * i + k) 24 (by omega), pk_in (18 + k) 24 (by omega), nm_e ⟨pk_in (3 * i + k) 24 (by omega), pk_in (21 + k) 24 (by omega), nm_e (nm_r (nI_1 k) (hw _ ⟨fun j hj => ?_, fun k' hk' => ?_, fun k' hk' => ?_, fun j hj hj' => ?_, fun j hj hj' => ?_⟩))⟩⟩
    · rw [pk_un (by omega), pk_un (by omega)]
      exact h1 j hj
    · rw [pk_un (by omega)]
      by_cases w : k' = k
      · rw [w, pk_us, h1 _ (by omega)]
      · rw [pk_un (by omega)]
        exact h2 k' (by omega)
    · by_cases w : k' = k
      · rw [w, pk_us, pk_un (by omega), h1 _ (by omega)]
      · rw [pk_un (by omega), pk_un (by omega)]
        exact h3 k' (by omega)
    · rw [pk_un (by omega), pk_un (by omega)]
      exact h4 j (by omega) hj'
    · rw [pk_un (by omega), pk_un (by omega)]
      exact h5 j (by omega) hj'
theorem ib_tight_l {post : Int32 → St2 → Prop} {i n : Nat} (hi : n ≤ i) (hn : i < 100) (H : post (-5) (nI n, ac, d, a1, a2, a3, a4, a5, a6, a7, a8, a9, a10, a11)) : wpX_tight post (nI n, ac, d, a1, a2, a3, a4, a5, a6, a7, a8, a9, a10, a11) (nI i) := by
  unfold wpX_tight
  dsimp only
  exact ib_noL1 hi hn (br_f ib_10 H)
theorem ib_idle {post : Int32 → St2 → Prop} {i n : Nat} {set set' : Int32} (hi : i < n) (hn : n ≤ 6) (hon : ¬ a5 i = 0) (hc : ib_C a3 a4) (hb : ib_B a1 a2) (hs : ib_on a5 n = set) (hs' : set &&& (((1 : Int32) <<< (nI i &&& 31)) ^^^ (-1)) = set')
    (H1 : ib_cn (fun x => ib_in a1 a2 x ∧ ib_S a3 a4 set x) = ib_cn (fun x => ib_in a1 a2 x ∧ ib_S a3 a4 set' x) → ∀ (ac' e' : Int32) (b7 b8 b9 b10 : Nat → Int32), post 1 (nI n, ac', e', a1, a2, a3, a4, a5, a6, b7, b8, b9, b10, a11))
    (H0 : ib_cn (fun x => ib_in a1 a2 x ∧ ib_S a3 a4 set x) ≠ ib_cn (fun x => ib_in a1 a2 x ∧ ib_S a3 a4 set' x) → ∀ (ac' e' : Int32) (b7 b8 b9 b10 : Nat → Int32), post 0 (nI n, ac', e', a1, a2, a3, a4, a5, a6, b7, b8, b9, b10, a11)) :
    wpX_idle post (nI n, ac, d, a1, a2, a3, a4, a5, a6, a7, a8, a9, a10, a11) (nI i) := by
  unfold wpX_idle
  dsimp only
  refine ib_noL0 hi hn (br_t rfl ⟨pk_in i 6 (by omega), ?_⟩)
  rw [nI_clamp (show i < 2 ^ 31 by omega)]
  refine br_f hon (ib_limitsOn hn ?_)
  rw [hs, hs']
  refine ib_count hc hb (fun e1 b7 b8 b9 b10 => ib_count hc hb (fun e2 c7 c8 c9 c10 => ?_))
  have m1 : ib_cn (fun x => ib_in a1 a2 x ∧ ib_S a3 a4 set x) ≤ 4913 := ib_cn_le
  have m2 : ib_cn (fun x => ib_in a1 a2 x ∧ ib_S a3 a4 set' x) ≤ 4913 := ib_cn_le
  exact pk_eq _ _ (fun z => H1 z _ _ _ _ _ _) (fun z => H0 z _ _ _ _ _ _)
theorem ib_idle0 {post : Int32 → St2 → Prop} {i n : Nat} (hi : i < n) (hn : n ≤ 6) (hon : a5 i = 0) (H : post 0 (nI n, ac, d, a1, a2, a3, a4, a5, a6, a7, a8, a9, a10, a11)) : wpX_idle post (nI n, ac, d, a1, a2, a3, a4, a5, a6, a7, a8, a9, a10, a11) (nI i) := by
  unfold wpX_idle
  dsimp only
  refine ib_noL0 hi hn (br_t rfl ⟨pk_in i 6 (by omega), ?_⟩)
  rw [nI_clamp (show i < 2 ^ 31 by omega)]
  exact br_t hon H
/-- bits as a mask -/
def ib_mk (E : Nat → Bool) : Nat → Int32
  | 0 => 0
  | j + 1 => if E j = true then ib_mk E j ||| ((1 : Int32) <<< (nI j &&& 31)) else ib_mk E j
theorem ib_nx : ∀ j, j < 17 → ¬ (8 : Int32) < nI j - 8 ∧ nI j - 8 + 1 = nI (j + 1) - 8 ∧ nI j - 8 + 8 = nI j ∧ (nI j - 8).toInt = (j : Int) - 8 := by decide +kernel
theorem ib_in8 {b c : Nat → Int32} (hb : ∀ k, k < 3 → b k = -8) (hc : ∀ k, k < 3 → c k = 8) (x : Nat → Int) : ib_in b c x ↔ ib_U x := by
  have z1 : (-8 : Int32).toInt = -8 := by decide
  have z2 : (8 : Int32).toInt = 8 := by decide
  constructor
  · intro h k hk
    have := h k hk
    rw [hb k hk, hc k hk, z1, z2] at this
    exact this
  · intro h k hk
    rw [hb k hk, hc k hk, z1, z2]
    exact h k hk
theorem ib_B8 {b c : Nat → Int32} (hb : ∀ k, k < 3 → b k = -8) (hc : ∀ k, k < 3 → c k = 8) : ib_B b c := by
  have z1 : (-8 : Int32).toInt = -8 := by decide
  have z2 : (8 : Int32).toInt = 8 := by decide
  intro k hk
  rw [hb k hk, hc k hk, z1, z2]
  omega
theorem ib_numbers {post : Int32 → St2 → Prop} {n v : Nat} (hn : n ≤ 6) (hv : v < 3) (hc : ib_C a3 a4) (h1 : ∀ k, k < 3 → a1 k = -8) (h2 : ∀ k, k < 3 → a2 k = 8) (E : Nat → Bool)
    (hE : ∀ j, j < 17 → (E j = true ↔ ∃ x, ib_U x ∧ ib_S a3 a4 (ib_on a5 n) x ∧ x v = (j : Int) - 8))
    (H : ∀ b1 b2 : Nat → Int32, (∀ k, k < 3 → b1 k = -8) → (∀ k, k < 3 → b2 k = 8) → ∀ (ac' e' : Int32) (b7 b8 b9 b10 b11 : Nat → Int32), post (ib_mk E 17) (nI n, ac', e', b1, b2, a3, a4, a5, a6, b7, b8, b9, b10, b11)) :
    wpX_numbers post (nI n, ac, d, a1, a2, a3, a4, a5, a6, a7, a8, a9, a10, a11) (nI v) := by
  have z1 : (-8 : Int32).toInt = -8 := by decide
  have z2 : (8 : Int32).toInt = 8 := by decide
  have z3 : (-8 : Int32) = nI 0 - 8 := by decide
  unfold wpX_numbers
  dsimp only
  refine ib_badV hv (br_t rfl (ib_limitsOn hn ⟨pk_in v 3 hv, ?_⟩))
  rw [nI_clamp (show v < 2 ^ 31 by omega)]
  refine nm_r (e' := nI 0 - 8) (by rw [h1 v hv]; exact z3) ⟨pk_in v 3 hv, nm_r (e' := 8) (h2 v hv) ?_⟩
  refine pk_loop (σ := (Nat → Int32) × (Nat → Int32) × Int32 × Int32 × (Nat → Int32) × (Nat → Int32) × (Nat → Int32) × (Nat → Int32) × (Nat → Int32))
    (fun m j s => wX_numbers_35 post (nI v) (ib_on a5 n) (nI 0 - 8) 8 m (ib_mk E j) (nI j - 8) (nI n) s.2.2.1 s.2.2.2.1 s.1 s.2.1 a3 a4 a5 a6 s.2.2.2.2.1 s.2.2.2.2.2.1 s.2.2.2.2.2.2.1 s.2.2.2.2.2.2.2.1 s.2.2.2.2.2.2.2.2)
    (fun j s => (∀ k, k < 3 → k ≠ v → s.1 k = -8) ∧ (∀ k, k < 3 → k ≠ v → s.2.1 k = 8)) 17 0 (a1, a2, ac, d, a7, a8, a9, a10, a11) (by omega) ⟨fun k hk _ => h1 k hk, fun k hk _ => h2 k hk⟩ ?_ ?_
  · intro m s hI
    obtain ⟨s1, s2, sac, sd, s7, s8, s9, s10, s11⟩ := s
    obtain ⟨g1, g2⟩ := hI
    dsimp only at g1 g2 ⊢
    refine br_t (by decide) ⟨pk_in v 3 hv, nm_e ⟨pk_in v 3 hv, nm_e ?_⟩⟩
    rw [nI_clamp (show v < 2 ^ 31 by omega)]
    refine H _ _ (fun k hk => ?_) (fun k hk => ?_) _ _ _ _ _ _ _
    · by_cases w : k = v
      · rw [w, pk_us, z3]
      · rw [pk_un w]
        exact g1 k hk w
    · by_cases w : k = v
      · rw [w, pk_us]
      · rw [pk_un w]
        exact g2 k hk w
  · intro m j s hj hI hw
    obtain ⟨s1, s2, sac, sd, s7, s8, s9, s10, s11⟩ := s
    obtain ⟨g1, g2⟩ := hI
    obtain ⟨q1, q2, q3, q4⟩ := ib_nx j hj
    dsimp only at g1 g2 ⊢
    refine br_f q1 ?_
    rw [nI_clamp (show v < 2 ^ 31 by omega)]
    refine ⟨pk_in v 3 hv, nm_e ⟨pk_in v 3 hv, nm_e ?_⟩⟩
    have r1 : ∀ k, k < 3 → k ≠ v → upd s1 v (nI j - 8) k = -8 := fun k hk w => by rw [pk_un w]; exact g1 k hk w
    have r2 : ∀ k, k < 3 → k ≠ v → upd s2 v (nI j - 8) k = 8 := fun k hk w => by rw [pk_un w]; exact g2 k hk w
    have hin : ∀ x, ib_in (upd s1 v (nI j - 8)) (upd s2 v (nI j - 8)) x ↔ ib_U x ∧ x v = (j : Int) - 8 := by
      intro x
      constructor
      · intro h
        have hv' := h v hv
        rw [pk_us, pk_us, q4] at hv'
        refine ⟨fun k hk => ?_, by omega⟩
        by_cases w : k = v
        · rw [w]
          omega
        · have := h k hk
          rw [r1 k hk w, r2 k hk w, z1, z2] at this
          exact this
      · intro h k hk
        by_cases w : k = v
        · rw [w, pk_us, pk_us, q4]
          omega
        · rw [r1 k hk w, r2 k hk w, z1, z2]
          exact h.1 k hk
    have hB : ib_B (upd s1 v (nI j - 8)) (upd s2 v (nI j - 8)) := fun k hk => by
      by_cases w : k = v
      · rw [w, pk_us, pk_us, q4]
        omega
      · rw [r1 k hk w, r2 k hk w, z1, z2]
        omega
    refine ib_findFirst hc hB (fun h e' b7 b8 b9 b10 => br_t rfl (nm_r q2 ?_)) (fun x x1 x2 _ e' b7 b8 b9 b10 b11 _ => br_f ib_10 ?_)
    · have t := hw (upd s1 v (nI j - 8), upd s2 v (nI j - 8), ib_on a5 n, e', b7, b8, b9, b10, s11) ⟨r1, r2⟩
      dsimp only at t
      unfold ib_mk at t
      rw [if_neg (fun z => ?_)] at t
      · exact t
      · obtain ⟨x, x1, x2, x3⟩ := (hE j hj).mp z
        exact h x ((hin x).mpr ⟨x1, x3⟩) x2
    · have t := hw (upd s1 v (nI j - 8), upd s2 v (nI j - 8), ib_on a5 n, e', b7, b8, b9, b10, b11) ⟨r1, r2⟩
      dsimp only at t
      unfold ib_mk at t
      rw [if_pos ((hE j hj).mpr ⟨x, ((hin x).mp x1).1, x2, ((hin x).mp x1).2⟩)] at t
      rw [q3]
      exact nm_e (nm_r q2 t)
theorem ib_numbers3 {post : Int32 → St2 → Prop} (H : post (-1) (l, ac, d, a1, a2, a3, a4, a5, a6, a7, a8, a9, a10, a11)) : wpX_numbers post (l, ac, d, a1, a2, a3, a4, a5, a6, a7, a8, a9, a10, a11) 3 := by
  unfold wpX_numbers
  dsimp only
  exact ib_badV3 (br_f ib_10 H)
/-! how many bits -/
def ib_bc (x : Int32) : Nat → Int32
  | 0 => 0
  | i + 1 => ib_bc x i + ((x >>> (nI i &&& 31)) &&& 1)
theorem ib_bits {post : Int32 → Prop} {x : Int32} (H : post (ib_bc x 6)) : wpX_bits post () x := by
  unfold wpX_bits
  refine pk_loop (σ := Unit) (fun m i _ => wX_bits_4 post x m (ib_bc x i) (nI i)) (fun _ _ => True) 6 0 () (by omega) trivial ?_ ?_
  · intro m _ _
    exact pk_le 6 6 (fun _ => H) (fun t => absurd t (by omega))
  · intro m i _ hi _ hw
    exact pk_le 6 i (fun t => absurd t (by omega)) (fun _ => nm_e (nm_r (nI_1 i) (hw () trivial)))
def ib_pc (k : Nat) : Nat := k % 2 + k / 2 % 2 + k / 4 % 2 + k / 8 % 2 + k / 16 % 2 + k / 32 % 2
theorem ib_bpc : ∀ k, k < 64 → ib_bc (nI k) 6 = nI (ib_pc k) := by decide +kernel
theorem ib_pc6 (k : Nat) : ib_pc k ≤ 6 := by
  unfold ib_pc
  omega
theorem ib_core {post : Int32 → St2 → Prop} {n ev K k0 : Nat} (hn : n ≤ 6) (hc : ib_C a3 a4) (hb : ib_B a1 a2) (hs : ib_on a5 n = nI ev) (hev : ev < 64) (hinf : ∀ x, ib_in a1 a2 x → ¬ ib_S a3 a4 (nI ev) x)
    (hlo : ∀ k, k < 64 → (nI k &&& (nI ev ^^^ (-1))) = 0 → ib_pc k < K → ∃ x, ib_in a1 a2 x ∧ ib_S a3 a4 (nI k) x)
    (hk0 : k0 < 64) (hk1 : (nI k0 &&& (nI ev ^^^ (-1))) = 0) (hk2 : ib_pc k0 = K) (hk3 : ∀ x, ib_in a1 a2 x → ¬ ib_S a3 a4 (nI k0) x) (hK : K ≤ ib_pc ev)
    (H : ∀ (ac' e' : Int32) (b7 b8 b9 b10 b11 : Nat → Int32), post (nI K) (nI n, ac', e', a1, a2, a3, a4, a5, a6, b7, b8, b9, b10, b11)) :
    wpX_core post (nI n, ac, d, a1, a2, a3, a4, a5, a6, a7, a8, a9, a10, a11) := by
  unfold wpX_core
  dsimp only
  refine ib_limitsOn hn ?_
  rw [hs]
  refine ib_findFirst hc hb (fun _ e' b7 b8 b9 b10 => br_t rfl (ib_bits ?_)) (fun x x1 x2 => absurd x2 (hinf x x1))
  rw [ib_bpc ev hev]
  have p6 := ib_pc6 ev
  refine pk_loop (σ := Nat × Int32 × Int32 × (Nat → Int32) × (Nat → Int32) × (Nat → Int32) × (Nat → Int32) × (Nat → Int32))
    (fun m j s => wX_core_27 post (nI ev) m (nI s.1) (nI j) (nI n) s.2.1 s.2.2.1 a1 a2 a3 a4 a5 a6 s.2.2.2.1 s.2.2.2.2.1 s.2.2.2.2.2.1 s.2.2.2.2.2.2.1 s.2.2.2.2.2.2.2)
    (fun j s => K ≤ s.1 ∧ s.1 ≤ 6 ∧ (k0 < j → s.1 ≤ K)) 64 0 (ib_pc ev, nI ev, e', b7, b8, b9, b10, a11) (by omega) ⟨hK, p6, fun t => absurd t (by omega)⟩ ?_ ?_
  · intro m s hI
    obtain ⟨b, sac, sd, s7, s8, s9, s10, s11⟩ := s
    obtain ⟨g1, g2, g3⟩ := hI
    dsimp only at g1 g2 g3 ⊢
    have e : b = K := by
      have := g3 hk0
      omega
    rw [e]
    exact pk_le 64 64 (fun _ => H _ _ _ _ _ _ _) (fun t => absurd t (by omega))
  · intro m j s hj hI hw
    obtain ⟨b, sac, sd, s7, s8, s9, s10, s11⟩ := s
    obtain ⟨g1, g2, g3⟩ := hI
    dsimp only at g1 g2 g3 ⊢
    have pj := ib_pc6 j
    refine pk_le 64 j (fun t => absurd t (by omega)) (fun _ => ib_bits ?_)
    rw [ib_bpc j hj]
    refine br_c (fun z => ?_) (fun z => nm_r (nI_1 j) (hw (b, sac, sd, s7, s8, s9, s10, s11) ⟨g1, g2, fun t => ?_⟩))
    · refine pk_le b (ib_pc j) (fun q => nm_r (nI_1 j) (hw (b, sac, sd, s7, s8, s9, s10, s11) ⟨g1, g2, fun t => ?_⟩)) (fun q => ?_)
      · by_cases w : k0 = j
        · subst w
          dsimp only
          omega
        · exact g3 (by omega)
      · refine ib_findFirst hc hb (fun h e2 c7 c8 c9 c10 => br_t rfl (nm_r (nI_1 j) (hw (ib_pc j, nI j, e2, c7, c8, c9, c10, s11) ⟨?_, pj, fun t => ?_⟩))) (fun x x1 x2 _ e2 c7 c8 c9 c10 c11 _ => br_f ib_10 (nm_r (nI_1 j) (hw (b, nI j, e2, c7, c8, c9, c10, c11) ⟨g1, g2, fun t => ?_⟩)))
        · rcases Nat.lt_or_ge (ib_pc j) K with w | w
          · obtain ⟨x, x1, x2⟩ := hlo j hj z w
            exact absurd x2 (h x x1)
          · exact w
        · by_cases w : k0 = j
          · subst w
            dsimp only
            omega
          · have := g3 (by omega)
            dsimp only
            omega
        · by_cases w : k0 = j
          · subst w
            exact absurd x2 (hk3 x x1)
          · exact g3 (by omega)
    · by_cases w : k0 = j
      · subst w
        exact absurd hk1 z
      · exact g3 (by omega)
theorem ib_core1 {post : Int32 → St2 → Prop} {n : Nat} (hn : n ≤ 6) (hc : ib_C a3 a4) (hb : ib_B a1 a2) (hx : ∃ x, ib_in a1 a2 x ∧ ib_S a3 a4 (ib_on a5 n) x)
    (H : ∀ (ac' e' : Int32) (b7 b8 b9 b10 b11 : Nat → Int32), post (-10000) (nI n, ac', e', a1, a2, a3, a4, a5, a6, b7, b8, b9, b10, b11)) :
    wpX_core post (nI n, ac, d, a1, a2, a3, a4, a5, a6, a7, a8, a9, a10, a11) := by
  obtain ⟨x0, y1, y2⟩ := hx
  unfold wpX_core
  dsimp only
  refine ib_limitsOn hn ?_
  exact ib_findFirst hc hb (fun h => absurd y2 (h x0 y1)) (fun x x1 x2 _ e2 c7 c8 c9 c10 c11 _ => br_f ib_10 (H _ _ _ _ _ _ _))
end
end
section
/-! the law's limits, in plain ints -/
def ib_pm (p q r : Nat) : Prop := (p = 0 ∧ q = 1 ∧ r = 2) ∨ (p = 0 ∧ q = 2 ∧ r = 1) ∨ (p = 1 ∧ q = 0 ∧ r = 2) ∨ (p = 1 ∧ q = 2 ∧ r = 0) ∨ (p = 2 ∧ q = 0 ∧ r = 1) ∨ (p = 2 ∧ q = 1 ∧ r = 0)
def ib_Lv (p q r : Nat) (i : Nat) (x : Nat → Int) : Int := if i = 0 then x p + x q else if i = 1 then -(x p + x q) else if i = 2 then x r else if i = 3 then -(x r) else if i = 4 then -(x r) else x p + x q
def ib_D (s t w : Int) (i : Nat) : Int := if i = 0 then s else if i = 1 then -s else if i = 2 then t else if i = 3 then -t else if i = 4 then -t - 1 else w
def ib_T (p q r : Nat) (s t w : Int) (set : Int32) (x : Nat → Int) : Prop := ∀ i, i < 6 → ib_act set i → ib_Lv p q r i x ≤ ib_D s t w i
theorem ib_actk0 : ∀ k, k < 64 → ∀ i, i < 8 → ((((nI k) >>> (nI i &&& 31)) &&& 1) = 1 ↔ k / 2 ^ i % 2 = 1) := by decide +kernel
theorem ib_actk {k i : Nat} (hk : k < 64) (hi : i < 8) : ib_act (nI k) i ↔ k / 2 ^ i % 2 = 1 := ib_actk0 k hk i hi
theorem ib_6 {P : Nat → Prop} (h0 : P 0) (h1 : P 1) (h2 : P 2) (h3 : P 3) (h4 : P 4) (h5 : P 5) : ∀ k, k < 6 → P k := by
  intro k hk
  have h : k = 0 ∨ k = 1 ∨ k = 2 ∨ k = 3 ∨ k = 4 ∨ k = 5 := by omega
  rcases h with rfl | rfl | rfl | rfl | rfl | rfl
  · exact h0
  · exact h1
  · exact h2
  · exact h3
  · exact h4
  · exact h5
theorem ib_Tk {p q r k : Nat} {s t w : Int} {x : Nat → Int} (hk : k < 64) : ib_T p q r s t w (nI k) x ↔ (k % 2 = 1 → x p + x q ≤ s) ∧ (k / 2 % 2 = 1 → -(x p + x q) ≤ -s) ∧ (k / 4 % 2 = 1 → x r ≤ t) ∧ (k / 8 % 2 = 1 → -(x r) ≤ -t) ∧ (k / 16 % 2 = 1 → -(x r) ≤ -t - 1) ∧ (k / 32 % 2 = 1 → x p + x q ≤ w) := by
  constructor
  · intro h
    exact ⟨fun g => h 0 (by omega) ((ib_actk hk (by omega)).mpr (by rw [Nat.pow_zero, Nat.div_one]; exact g)), fun g => h 1 (by omega) ((ib_actk hk (by omega)).mpr g), fun g => h 2 (by omega) ((ib_actk hk (by omega)).mpr g), fun g => h 3 (by omega) ((ib_actk hk (by omega)).mpr g), fun g => h 4 (by omega) ((ib_actk hk (by omega)).mpr g), fun g => h 5 (by omega) ((ib_actk hk (by omega)).mpr g)⟩
  · intro h
    refine ib_6 (P := fun i => ib_act (nI k) i → ib_Lv p q r i x ≤ ib_D s t w i) (fun g => h.1 ?_) (fun g => h.2.1 ((ib_actk hk (by omega)).mp g)) (fun g => h.2.2.1 ((ib_actk hk (by omega)).mp g)) (fun g => h.2.2.2.1 ((ib_actk hk (by omega)).mp g)) (fun g => h.2.2.2.2.1 ((ib_actk hk (by omega)).mp g)) (fun g => h.2.2.2.2.2 ((ib_actk hk (by omega)).mp g))
    have := (ib_actk hk (by omega)).mp g
    rw [Nat.pow_zero, Nat.div_one] at this
    exact this
theorem ib_T15 {p q r : Nat} {s t w : Int} {x : Nat → Int} : ib_T p q r s t w (nI 15) x ↔ x p + x q = s ∧ x r = t := by
  rw [ib_Tk (by omega)]
  omega
theorem ib_T14 {p q r : Nat} {s t w : Int} {x : Nat → Int} : ib_T p q r s t w (nI 14) x ↔ s ≤ x p + x q ∧ x r = t := by
  rw [ib_Tk (by omega)]
  omega
theorem ib_T31 {p q r : Nat} {s t w : Int} {x : Nat → Int} : ib_T p q r s t w (nI 31) x ↔ False := by
  rw [ib_Tk (by omega)]
  exact ⟨fun h => by omega, False.elim⟩
theorem ib_T27 {p q r : Nat} {s t w : Int} {x : Nat → Int} : ib_T p q r s t w (nI 27) x ↔ x p + x q = s ∧ t + 1 ≤ x r := by
  rw [ib_Tk (by omega)]
  omega
theorem ib_T11 {p q r : Nat} {s t w : Int} {x : Nat → Int} : ib_T p q r s t w (nI 11) x ↔ x p + x q = s ∧ t ≤ x r := by
  rw [ib_Tk (by omega)]
  omega
theorem ib_T43 {p q r : Nat} {s t w : Int} {x : Nat → Int} : ib_T p q r s t w (nI 43) x ↔ (x p + x q = s ∧ x p + x q ≤ w) ∧ t ≤ x r := by
  rw [ib_Tk (by omega)]
  omega
theorem ib_T42 {p q r : Nat} {s t w : Int} {x : Nat → Int} : ib_T p q r s t w (nI 42) x ↔ (s ≤ x p + x q ∧ x p + x q ≤ w) ∧ t ≤ x r := by
  rw [ib_Tk (by omega)]
  omega
theorem ib_T0 {p q r : Nat} {s t w : Int} {x : Nat → Int} : ib_T p q r s t w (nI 0) x ↔ True := by
  rw [ib_Tk (by omega)]
  exact ⟨fun _ => trivial, fun _ => by omega⟩
/-! counting by pairs -/
theorem ib_s1 (a : Nat → Nat → Nat) (c : Nat → Nat) : ib_su 17 (fun i => ib_su 17 (fun j => ib_su 17 (fun k => a i j * c k))) = ib_su 17 (fun i => ib_su 17 (fun j => a i j)) * ib_su 17 c := by
  rw [← ib_su_j]
  refine ib_su_c (fun i _ => ?_)
  rw [← ib_su_j]
  exact ib_su_c (fun j _ => ib_su_k 17 _ _)
theorem ib_s2 (a : Nat → Nat → Nat) (c : Nat → Nat) : ib_su 17 (fun i => ib_su 17 (fun j => ib_su 17 (fun k => a i k * c j))) = ib_su 17 (fun i => ib_su 17 (fun j => a i j)) * ib_su 17 c := by
  rw [← ib_su_j]
  refine ib_su_c (fun i _ => ?_)
  rw [← ib_su_k]
  exact ib_su_c (fun j _ => ib_su_j 17 _ _)
theorem ib_s3 (a : Nat → Nat → Nat) (c : Nat → Nat) : ib_su 17 (fun i => ib_su 17 (fun j => ib_su 17 (fun k => a j k * c i))) = ib_su 17 (fun i => ib_su 17 (fun j => a i j)) * ib_su 17 c := by
  rw [← ib_su_k]
  refine ib_su_c (fun i _ => ?_)
  rw [← ib_su_j]
  exact ib_su_c (fun j _ => ib_su_j 17 _ _)
noncomputable def ib_pr (A : Int → Prop) : Nat := ib_su 17 (fun i => ib_su 17 (fun j => ib_d (A (((i : Int) - 8) + ((j : Int) - 8)))))
noncomputable def ib_sg (C : Int → Prop) : Nat := ib_su 17 (fun k => ib_d (C ((k : Int) - 8)))
theorem ib_cn_pr {p q r : Nat} (hp : ib_pm p q r) (A C : Int → Prop) : ib_cn (fun x => A (x p + x q) ∧ C (x r)) = ib_pr A * ib_sg C := by
  have e : ∀ a b c : Nat, ib_d (A (((a : Int) - 8) + ((b : Int) - 8)) ∧ C ((c : Int) - 8)) = ib_d (A (((a : Int) - 8) + ((b : Int) - 8))) * ib_d (C ((c : Int) - 8)) := fun a b c => ib_da
  have e' : ∀ a b c : Nat, ib_d (A (((b : Int) - 8) + ((a : Int) - 8)) ∧ C ((c : Int) - 8)) = ib_d (A (((a : Int) - 8) + ((b : Int) - 8))) * ib_d (C ((c : Int) - 8)) := fun a b c => by
    rw [Int.add_comm]
    exact ib_da
  rcases hp with ⟨rfl, rfl, rfl⟩ | ⟨rfl, rfl, rfl⟩ | ⟨rfl, rfl, rfl⟩ | ⟨rfl, rfl, rfl⟩ | ⟨rfl, rfl, rfl⟩ | ⟨rfl, rfl, rfl⟩
  · exact Eq.trans (ib_su_c (fun i _ => ib_su_c (fun j _ => ib_su_c (fun k _ => e i j k)))) (ib_s1 (fun i j => ib_d (A (((i : Int) - 8) + ((j : Int) - 8)))) (fun k => ib_d (C ((k : Int) - 8))))
  · exact Eq.trans (ib_su_c (fun i _ => ib_su_c (fun j _ => ib_su_c (fun k _ => e i k j)))) (ib_s2 (fun i j => ib_d (A (((i : Int) - 8) + ((j : Int) - 8)))) (fun k => ib_d (C ((k : Int) - 8))))
  · exact Eq.trans (ib_su_c (fun i _ => ib_su_c (fun j _ => ib_su_c (fun k _ => e' i j k)))) (ib_s1 (fun i j => ib_d (A (((i : Int) - 8) + ((j : Int) - 8)))) (fun k => ib_d (C ((k : Int) - 8))))
  · exact Eq.trans (ib_su_c (fun i _ => ib_su_c (fun j _ => ib_su_c (fun k _ => e j k i)))) (ib_s3 (fun i j => ib_d (A (((i : Int) - 8) + ((j : Int) - 8)))) (fun k => ib_d (C ((k : Int) - 8))))
  · exact Eq.trans (ib_su_c (fun i _ => ib_su_c (fun j _ => ib_su_c (fun k _ => e' i k j)))) (ib_s2 (fun i j => ib_d (A (((i : Int) - 8) + ((j : Int) - 8)))) (fun k => ib_d (C ((k : Int) - 8))))
  · exact Eq.trans (ib_su_c (fun i _ => ib_su_c (fun j _ => ib_su_c (fun k _ => e' j k i)))) (ib_s3 (fun i j => ib_d (A (((i : Int) - 8) + ((j : Int) - 8)))) (fun k => ib_d (C ((k : Int) - 8))))
/-! the numbers -/
theorem ib_pr_c {A : Int → Prop} {B : Nat → Prop} [DecidablePred B] (h : ∀ i j : Nat, A (((i : Int) - 8) + ((j : Int) - 8)) ↔ B (i + j)) : ib_pr A = ib_su 17 (fun i => ib_su 17 (fun j => if B (i + j) then 1 else 0)) :=
  ib_su_c (fun i _ => ib_su_c (fun j _ => (ib_dc (h i j)).trans ib_dd))
theorem ib_sg_c {C : Int → Prop} {B : Nat → Prop} [DecidablePred B] (h : ∀ i : Nat, C ((i : Int) - 8) ↔ B i) : ib_sg C = ib_su 17 (fun i => if B i then 1 else 0) :=
  ib_su_c (fun i _ => (ib_dc (h i)).trans ib_dd)
theorem ib_n1 : ∀ m, m < 33 → ib_su 17 (fun i => ib_su 17 (fun j => if i + j = m then 1 else 0)) = if m < 16 then m + 1 else 33 - m := by decide +kernel
theorem ib_n2 : ∀ m, m < 33 → (ib_su 17 (fun i => ib_su 17 (fun j => if i + j = m then 1 else 0)) = ib_su 17 (fun i => ib_su 17 (fun j => if m ≤ i + j then 1 else 0)) ↔ m = 32) := by decide +kernel
theorem ib_n3 : ∀ m, m < 17 → ib_su 17 (fun i => if i = m then 1 else 0) = 1 ∧ ib_su 17 (fun i => if m ≤ i then 1 else 0) = 17 - m ∧ ib_su 17 (fun i => if m + 1 ≤ i then 1 else 0) = 16 - m ∧ ib_su 17 (fun i => if i = m + 1 then 1 else 0) = if m < 16 then 1 else 0 := by decide +kernel
theorem ib_pr1 {s : Int} (h1 : -16 ≤ s) (h2 : s ≤ 16) : (ib_pr (fun u => u = s) : Int) = if s < 0 then 17 + s else 17 - s := by
  rw [ib_pr_c (B := fun m => m = (s + 16).toNat) (fun i j => by omega), ib_n1 (s + 16).toNat (by omega)]
  split <;> split <;> omega
theorem ib_pr2 {s : Int} (h1 : -16 ≤ s) (h2 : s ≤ 16) : ib_pr (fun u => u = s) = ib_pr (fun u => s ≤ u) ↔ s = 16 := by
  rw [ib_pr_c (B := fun m => m = (s + 16).toNat) (fun i j => by omega), ib_pr_c (B := fun m => (s + 16).toNat ≤ m) (fun i j => by omega), ib_n2 (s + 16).toNat (by omega)]
  omega
theorem ib_sg1 {t : Int} (h1 : -8 ≤ t) (h2 : t ≤ 8) : ib_sg (fun c => c = t) = 1 := by
  rw [ib_sg_c (B := fun m => m = (t + 8).toNat) (fun i => by omega), (ib_n3 (t + 8).toNat (by omega)).1]
theorem ib_sg2 {t : Int} (h1 : -8 ≤ t) (h2 : t ≤ 8) : (ib_sg (fun c => t ≤ c) : Int) = 9 - t := by
  rw [ib_sg_c (B := fun m => (t + 8).toNat ≤ m) (fun i => by omega), (ib_n3 (t + 8).toNat (by omega)).2.1]
  omega
theorem ib_sg3 {t : Int} (h1 : -8 ≤ t) (h2 : t ≤ 8) : (ib_sg (fun c => t + 1 ≤ c) : Int) = 8 - t := by
  rw [ib_sg_c (B := fun m => (t + 8).toNat + 1 ≤ m) (fun i => by omega), (ib_n3 (t + 8).toNat (by omega)).2.2.1]
  omega
theorem ib_sg4 {t : Int} (h1 : -8 ≤ t) (h2 : t ≤ 8) : ib_sg (fun c => c = t + 1) = if t < 8 then 1 else 0 := by
  rw [ib_sg_c (B := fun m => m = (t + 8).toNat + 1) (fun i => by omega), (ib_n3 (t + 8).toNat (by omega)).2.2.2]
  split <;> split <;> omega
theorem ib_pr0 : ib_pr (fun _ => True) = 289 := by
  rw [ib_pr_c (B := fun _ => True) (fun i j => Iff.rfl)]
  decide +kernel
theorem ib_sg0 : ib_sg (fun _ => True) = 17 := by
  rw [ib_sg_c (B := fun _ => True) (fun i => Iff.rfl)]
  decide +kernel
/-! a point with given numbers -/
theorem ib_at {p q r : Nat} (hp : ib_pm p q r) {a b c : Int} (h1 : -8 ≤ a) (h2 : a ≤ 8) (h3 : -8 ≤ b) (h4 : b ≤ 8) (h5 : -8 ≤ c) (h6 : c ≤ 8) : ∃ x, ib_U x ∧ x p = a ∧ x q = b ∧ x r = c := by
  rcases hp with ⟨rfl, rfl, rfl⟩ | ⟨rfl, rfl, rfl⟩ | ⟨rfl, rfl, rfl⟩ | ⟨rfl, rfl, rfl⟩ | ⟨rfl, rfl, rfl⟩ | ⟨rfl, rfl, rfl⟩
  · exact ⟨ib_pt a b c, ib_3 (P := fun k => -8 ≤ ib_pt a b c k ∧ ib_pt a b c k ≤ 8) ⟨h1, h2⟩ ⟨h3, h4⟩ ⟨h5, h6⟩, rfl, rfl, rfl⟩
  · exact ⟨ib_pt a c b, ib_3 (P := fun k => -8 ≤ ib_pt a c b k ∧ ib_pt a c b k ≤ 8) ⟨h1, h2⟩ ⟨h5, h6⟩ ⟨h3, h4⟩, rfl, rfl, rfl⟩
  · exact ⟨ib_pt b a c, ib_3 (P := fun k => -8 ≤ ib_pt b a c k ∧ ib_pt b a c k ≤ 8) ⟨h3, h4⟩ ⟨h1, h2⟩ ⟨h5, h6⟩, rfl, rfl, rfl⟩
  · exact ⟨ib_pt c a b, ib_3 (P := fun k => -8 ≤ ib_pt c a b k ∧ ib_pt c a b k ≤ 8) ⟨h5, h6⟩ ⟨h1, h2⟩ ⟨h3, h4⟩, rfl, rfl, rfl⟩
  · exact ⟨ib_pt b c a, ib_3 (P := fun k => -8 ≤ ib_pt b c a k ∧ ib_pt b c a k ≤ 8) ⟨h3, h4⟩ ⟨h5, h6⟩ ⟨h1, h2⟩, rfl, rfl, rfl⟩
  · exact ⟨ib_pt c b a, ib_3 (P := fun k => -8 ≤ ib_pt c b a k ∧ ib_pt c b a k ≤ 8) ⟨h5, h6⟩ ⟨h3, h4⟩ ⟨h1, h2⟩, rfl, rfl, rfl⟩
theorem ib_pm3 {p q r : Nat} (hp : ib_pm p q r) : p < 3 ∧ q < 3 ∧ r < 3 ∧ p ≠ q := by
  unfold ib_pm at hp
  omega
theorem ib_Up {p q r : Nat} (hp : ib_pm p q r) {x : Nat → Int} (hx : ib_U x) : (-8 ≤ x p ∧ x p ≤ 8) ∧ (-8 ≤ x q ∧ x q ≤ 8) ∧ (-8 ≤ x r ∧ x r ≤ 8) := by
  obtain ⟨h1, h2, h3, _⟩ := ib_pm3 hp
  exact ⟨hx p h1, hx q h2, hx r h3⟩
end
section
section
variable {p q r n : Nat} {s t w : Int} {O : Nat → Int32}
def ib_J (p q r n : Nat) (s t w : Int) (O : Nat → Int32) (l : Int32) (a1 a2 a3 a4 a5 : Nat → Int32) : Prop :=
  l = nI n ∧ (∀ k, k < 3 → a1 k = -8) ∧ (∀ k, k < 3 → a2 k = 8) ∧ ib_C a3 a4 ∧ (∀ i, i < n → ∀ x, ib_f a3 i x = ib_Lv p q r i x) ∧ (∀ i, i < n → (a4 i).toInt = ib_D s t w i) ∧ (∀ i, i < n → a5 i = O i)
/-- the object's state: n limits of the law's kinds -/
def ib_Z (p q r n : Nat) (s t w : Int) (O : Nat → Int32) (u : St2) : Prop := ib_J p q r n s t w O u.1 u.2.2.2.1 u.2.2.2.2.1 u.2.2.2.2.2.1 u.2.2.2.2.2.2.1 u.2.2.2.2.2.2.2.1
theorem ib_ST {l : Int32} {a1 a2 a3 a4 a5 : Nat → Int32} {k : Nat} (hz : ib_J p q r n s t w O l a1 a2 a3 a4 a5) (hn : n ≤ 6) (hk : k < 2 ^ n) (x : Nat → Int) : ib_S a3 a4 (nI k) x ↔ ib_T p q r s t w (nI k) x := by
  obtain ⟨_, _, _, _, j4, j5, _⟩ := hz
  have h64 : 2 ^ n ≤ 2 ^ 6 := Nat.pow_le_pow_right (by omega) hn
  have hb : ∀ i, i < 8 → ib_act (nI k) i → i < n := fun i hi ha => by
    have e := (ib_actk (by omega) hi).mp ha
    rcases Nat.lt_or_ge i n with g | g
    · exact g
    · have := Nat.pow_le_pow_right (n := 2) (by omega) g
      rw [Nat.div_eq_of_lt (by omega)] at e
      exact absurd e (by decide)
  constructor
  · intro h i hi ha
    have hin := hb i (by omega) ha
    have g : ib_f a3 i x ≤ (a4 i).toInt := h i (by omega) ha
    rw [j4 i hin, j5 i hin] at g
    exact g
  · intro h i hi ha
    have hin := hb i hi ha
    have g := h i (by omega) ha
    rw [← j4 i hin, ← j5 i hin] at g
    exact g
theorem ib_nIeq {m : Nat} {c : Int32} (hm : m < 2 ^ 31) (h : c.toInt = (m : Int)) : nI m = c := Int32.toInt_inj.mp (by rw [nI_toInt hm, h])
theorem ib_cnT {a1 a2 : Nat → Int32} {P : (Nat → Int) → Prop} {A C : Int → Prop} (hp : ib_pm p q r) (h1 : ∀ k, k < 3 → a1 k = -8) (h2 : ∀ k, k < 3 → a2 k = 8) (hq : ∀ x, P x ↔ A (x p + x q) ∧ C (x r)) :
    ib_cn (fun x => ib_in a1 a2 x ∧ P x) = ib_pr A * ib_sg C := by
  rw [← ib_cn_pr hp A C]
  exact ib_cn_c (fun x hx => ⟨fun h => (hq x).mp h.2, fun h => ⟨(ib_in8 h1 h2 x).mpr hx, (hq x).mpr h⟩⟩)
theorem ib_Zpoints {post : Int32 → St2 → Prop} {u : St2} {k : Nat} {A C : Int → Prop} {c : Int32} (hz : ib_Z p q r n s t w O u) (hn : n ≤ 6) (hs : ib_on O n = nI k) (hk : k < 2 ^ n) (hp : ib_pm p q r)
    (hq : ∀ x, ib_T p q r s t w (nI k) x ↔ A (x p + x q) ∧ C (x r)) (hc : c.toInt = ((ib_pr A * ib_sg C : Nat) : Int)) (H : ∀ u', ib_Z p q r n s t w O u' → post c u') : wpX_points post u := by
  obtain ⟨l, ac, d, a1, a2, a3, a4, a5, a6, a7, a8, a9, a10, a11⟩ := u
  obtain ⟨hl, j1, j2, j3, j4, j5, j6⟩ : ib_J p q r n s t w O l a1 a2 a3 a4 a5 := hz
  subst hl
  refine ib_points hn j3 (ib_B8 j1 j2) (fun ac' e' b7 b8 b9 b10 => ?_)
  have e : ib_cn (fun x => ib_in a1 a2 x ∧ ib_S a3 a4 (ib_on a5 n) x) = ib_pr A * ib_sg C := by
    rw [ib_on_c j6, hs]
    exact ib_cnT hp j1 j2 (fun x => (ib_ST ⟨rfl, j1, j2, j3, j4, j5, j6⟩ hn hk x).trans (hq x))
  have m : ib_cn (fun x => ib_in a1 a2 x ∧ ib_S a3 a4 (ib_on a5 n) x) ≤ 4913 := ib_cn_le
  rw [ib_nIeq (by omega) (by rw [e]; exact hc)]
  exact H _ ⟨rfl, j1, j2, j3, j4, j5, j6⟩
theorem ib_Zfirst {post : Int32 → St2 → Prop} {u : St2} {k v : Nat} (hz : ib_Z p q r n s t w O u) (hn : n ≤ 6) (hs : ib_on O n = nI k) (hk : k < 2 ^ n) (hv : v < 3)
    (H0 : (∀ x, ib_U x → ¬ ib_T p q r s t w (nI k) x) → ∀ u', ib_Z p q r n s t w O u' → post (-10000) u')
    (H1 : ∀ x, ib_U x → ib_T p q r s t w (nI k) x → (∀ y, ib_U y → ib_T p q r s t w (nI k) y → ib_lf x y) → ∀ (c : Int32) (u' : St2), c.toInt = x v → ib_Z p q r n s t w O u' → post c u') : wpX_first post u (nI v) := by
  obtain ⟨l, ac, d, a1, a2, a3, a4, a5, a6, a7, a8, a9, a10, a11⟩ := u
  obtain ⟨hl, j1, j2, j3, j4, j5, j6⟩ : ib_J p q r n s t w O l a1 a2 a3 a4 a5 := hz
  subst hl
  have hT : ∀ x, ib_S a3 a4 (ib_on a5 n) x ↔ ib_T p q r s t w (nI k) x := by
    rw [ib_on_c j6, hs]
    exact ib_ST ⟨rfl, j1, j2, j3, j4, j5, j6⟩ hn hk
  have hU := ib_in8 j1 j2
  exact ib_first hn hv j3 (ib_B8 j1 j2) (fun h ac' e' b7 b8 b9 b10 => H0 (fun x hx hq => h x ((hU x).mpr hx) ((hT x).mpr hq)) _ ⟨rfl, j1, j2, j3, j4, j5, j6⟩)
    (fun x x1 x2 x3 c ac' e' b7 b8 b9 b10 b11 hc => H1 x ((hU x).mp x1) ((hT x).mp x2) (fun y y1 y2 => x3 y ((hU y).mpr y1) ((hT y).mpr y2)) c _ hc ⟨rfl, j1, j2, j3, j4, j5, j6⟩)
theorem ib_Zgreatest {post : Int32 → St2 → Prop} {u : St2} {k : Nat} {f : Int32} (hz : ib_Z p q r n s t w O u) (hn : n ≤ 6) (hs : ib_on O n = nI k) (hk : k < 2 ^ n) (hf : ib_ok f)
    (H0 : (∀ x, ib_U x → ¬ ib_T p q r s t w (nI k) x) → ∀ u', ib_Z p q r n s t w O u' → post (-10000) u')
    (H1 : ∀ (c : Int32) (x : Nat → Int), ib_U x → ib_T p q r s t w (nI k) x → ib_fx f x = c.toInt → (∀ y, ib_U y → ib_T p q r s t w (nI k) y → ib_fx f y ≤ c.toInt) → ∀ (u' : St2), ib_Z p q r n s t w O u' → post c u') : wpX_greatest post u f := by
  obtain ⟨l, ac, d, a1, a2, a3, a4, a5, a6, a7, a8, a9, a10, a11⟩ := u
  obtain ⟨hl, j1, j2, j3, j4, j5, j6⟩ : ib_J p q r n s t w O l a1 a2 a3 a4 a5 := hz
  subst hl
  have hT : ∀ x, ib_S a3 a4 (ib_on a5 n) x ↔ ib_T p q r s t w (nI k) x := by
    rw [ib_on_c j6, hs]
    exact ib_ST ⟨rfl, j1, j2, j3, j4, j5, j6⟩ hn hk
  have hU := ib_in8 j1 j2
  exact ib_greatest hn hf j3 (ib_B8 j1 j2) (fun h ac' e' b6 b7 b8 b9 b10 => H0 (fun x hx hq => h x ((hU x).mpr hx) ((hT x).mpr hq)) _ ⟨rfl, j1, j2, j3, j4, j5, j6⟩)
    (fun c x x1 x2 x3 x4 ac' e' b6 b7 b8 b9 b10 => H1 c x ((hU x).mp x1) ((hT x).mp x2) x3 (fun y y1 y2 => x4 y ((hU y).mpr y1) ((hT y).mpr y2)) _ ⟨rfl, j1, j2, j3, j4, j5, j6⟩)
theorem ib_Zfollows {post : Int32 → St2 → Prop} {u : St2} {k : Nat} {f dd : Int32} (hz : ib_Z p q r n s t w O u) (hn : n ≤ 6) (hs : ib_on O n = nI k) (hk : k < 2 ^ n) (hf : ib_ok f)
    (H0 : (∀ x, ib_U x → ib_T p q r s t w (nI k) x → ib_fx f x ≤ dd.toInt) → ∀ u', ib_Z p q r n s t w O u' → post 1 u')
    (H1 : ∀ x, ib_U x → ib_T p q r s t w (nI k) x → ¬ ib_fx f x ≤ dd.toInt → ∀ (u' : St2), ib_Z p q r n s t w O u' → post 0 u') : wpX_follows post u f dd := by
  obtain ⟨l, ac, d, a1, a2, a3, a4, a5, a6, a7, a8, a9, a10, a11⟩ := u
  obtain ⟨hl, j1, j2, j3, j4, j5, j6⟩ : ib_J p q r n s t w O l a1 a2 a3 a4 a5 := hz
  subst hl
  have hT : ∀ x, ib_S a3 a4 (ib_on a5 n) x ↔ ib_T p q r s t w (nI k) x := by
    rw [ib_on_c j6, hs]
    exact ib_ST ⟨rfl, j1, j2, j3, j4, j5, j6⟩ hn hk
  have hU := ib_in8 j1 j2
  exact ib_follows hn hf j3 (ib_B8 j1 j2) (fun h ac' e' b6 b7 b8 b9 b10 => H0 (fun x hx hq => h x ((hU x).mpr hx) ((hT x).mpr hq)) _ ⟨rfl, j1, j2, j3, j4, j5, j6⟩)
    (fun x x1 x2 x3 ac' e' b6 b7 b8 b9 b10 => H1 x ((hU x).mp x1) ((hT x).mp x2) x3 _ ⟨rfl, j1, j2, j3, j4, j5, j6⟩)
theorem ib_Znumbers {post : Int32 → St2 → Prop} {u : St2} {k v : Nat} (hz : ib_Z p q r n s t w O u) (hn : n ≤ 6) (hs : ib_on O n = nI k) (hk : k < 2 ^ n) (hv : v < 3) (E : Nat → Bool)
    (hE : ∀ j, j < 17 → (E j = true ↔ ∃ x, ib_U x ∧ ib_T p q r s t w (nI k) x ∧ x v = (j : Int) - 8))
    (H : ∀ (u' : St2), ib_Z p q r n s t w O u' → post (ib_mk E 17) u') : wpX_numbers post u (nI v) := by
  obtain ⟨l, ac, d, a1, a2, a3, a4, a5, a6, a7, a8, a9, a10, a11⟩ := u
  obtain ⟨hl, j1, j2, j3, j4, j5, j6⟩ : ib_J p q r n s t w O l a1 a2 a3 a4 a5 := hz
  subst hl
  have hT : ∀ x, ib_S a3 a4 (ib_on a5 n) x ↔ ib_T p q r s t w (nI k) x := by
    rw [ib_on_c j6, hs]
    exact ib_ST ⟨rfl, j1, j2, j3, j4, j5, j6⟩ hn hk
  refine ib_numbers hn hv j3 j1 j2 E (fun j hj => ?_) (fun b1 b2 g1 g2 ac' e' b7 b8 b9 b10 b11 => H _ ⟨rfl, g1, g2, j3, j4, j5, j6⟩)
  rw [hE j hj]
  exact ⟨fun ⟨x, x1, x2, x3⟩ => ⟨x, x1, (hT x).mpr x2, x3⟩, fun ⟨x, x1, x2, x3⟩ => ⟨x, x1, (hT x).mp x2, x3⟩⟩
theorem ib_Znumbers3 {post : Int32 → St2 → Prop} {u : St2} (hz : ib_Z p q r n s t w O u) (H : ∀ (u' : St2), ib_Z p q r n s t w O u' → post (-1) u') : wpX_numbers post u 3 := by
  obtain ⟨l, ac, d, a1, a2, a3, a4, a5, a6, a7, a8, a9, a10, a11⟩ := u
  exact ib_numbers3 (H _ hz)
theorem ib_t192 : ∀ k, k < 64 → (∀ j, j < 6 → ((((nI k ||| 192) >>> (nI j &&& 31)) &&& 1) = 1 ↔ (((nI k) >>> (nI j &&& 31)) &&& 1) = 1)) ∧ (∀ j, j < 8 → 6 ≤ j → (((nI k ||| 192) >>> (nI j &&& 31)) &&& 1) = 1 ∧ ¬ (((nI k) >>> (nI j &&& 31)) &&& 1) = 1) := by decide +kernel
theorem ib_Ztight {post : Int32 → St2 → Prop} {u : St2} {k i : Nat} {A C : Int → Prop} {c : Int32} (hz : ib_Z p q r n s t w O u) (hi : i < n) (hn : n ≤ 6) (hs : ib_on O n = nI k) (hk : k < 2 ^ n) (hp : ib_pm p q r)
    (hq : ∀ x, ib_T p q r s t w (nI k) x ∧ ib_Lv p q r i x = ib_D s t w i ↔ A (x p + x q) ∧ C (x r)) (hc : c.toInt = ((ib_pr A * ib_sg C : Nat) : Int)) (H : ∀ u', ib_Z p q r n s t w O u' → post c u') : wpX_tight post u (nI i) := by
  obtain ⟨l, ac, d, a1, a2, a3, a4, a5, a6, a7, a8, a9, a10, a11⟩ := u
  obtain ⟨hl, j1, j2, j3, j4, j5, j6⟩ : ib_J p q r n s t w O l a1 a2 a3 a4 a5 := hz
  subst hl
  have h64 : 2 ^ n ≤ 2 ^ 6 := Nat.pow_le_pow_right (by omega) hn
  have g := ib_t192 k (by omega)
  refine ib_tight hi hn j3 (ib_B8 j1 j2) (set := nI k) (by rw [ib_on_c j6, hs]) g.1 g.2 (fun b3 b4 h3 h4 hC ac' e' b7 b8 b9 b10 => ?_)
  have e : ib_cn (fun x => ib_in a1 a2 x ∧ ib_S a3 a4 (nI k) x ∧ ib_f a3 i x = (a4 i).toInt) = ib_pr A * ib_sg C :=
    ib_cnT hp j1 j2 (fun x => by
      rw [ib_ST ⟨rfl, j1, j2, j3, j4, j5, j6⟩ hn hk x, j4 i hi, j5 i hi]
      exact hq x)
  have m : ib_cn (fun x => ib_in a1 a2 x ∧ ib_S a3 a4 (nI k) x ∧ ib_f a3 i x = (a4 i).toInt) ≤ 4913 := ib_cn_le
  rw [ib_nIeq (by omega) (by rw [e]; exact hc)]
  exact H _ ⟨rfl, j1, j2, hC, fun i' hi' x => by rw [← j4 i' hi' x]; exact ib_f_c (fun k hk => h3 _ (by omega)) x, fun i' hi' => by rw [← j5 i' hi']; exact congrArg _ (h4 i' (by omega)), j6⟩
theorem ib_Zidle {post : Int32 → St2 → Prop} {u : St2} {k k' i : Nat} {A C A' C' : Int → Prop} (hz : ib_Z p q r n s t w O u) (hi : i < n) (hn : n ≤ 6) (hs : ib_on O n = nI k) (hk : k < 2 ^ n) (hp : ib_pm p q r) (hon : ¬ O i = 0) (hs' : nI k &&& (((1 : Int32) <<< (nI i &&& 31)) ^^^ (-1)) = nI k') (hk' : k' < 2 ^ n)
    (hq : ∀ x, ib_T p q r s t w (nI k) x ↔ A (x p + x q) ∧ C (x r)) (hq' : ∀ x, ib_T p q r s t w (nI k') x ↔ A' (x p + x q) ∧ C' (x r))
    (H1 : ib_pr A * ib_sg C = ib_pr A' * ib_sg C' → ∀ u', ib_Z p q r n s t w O u' → post 1 u') (H0 : ib_pr A * ib_sg C ≠ ib_pr A' * ib_sg C' → ∀ u', ib_Z p q r n s t w O u' → post 0 u') : wpX_idle post u (nI i) := by
  obtain ⟨l, ac, d, a1, a2, a3, a4, a5, a6, a7, a8, a9, a10, a11⟩ := u
  obtain ⟨hl, j1, j2, j3, j4, j5, j6⟩ : ib_J p q r n s t w O l a1 a2 a3 a4 a5 := hz
  subst hl
  have e1 : ib_cn (fun x => ib_in a1 a2 x ∧ ib_S a3 a4 (nI k) x) = ib_pr A * ib_sg C := ib_cnT hp j1 j2 (fun x => (ib_ST ⟨rfl, j1, j2, j3, j4, j5, j6⟩ hn hk x).trans (hq x))
  have e2 : ib_cn (fun x => ib_in a1 a2 x ∧ ib_S a3 a4 (nI k') x) = ib_pr A' * ib_sg C' := ib_cnT hp j1 j2 (fun x => (ib_ST ⟨rfl, j1, j2, j3, j4, j5, j6⟩ hn hk' x).trans (hq' x))
  refine ib_idle hi hn (by rw [j6 i hi]; exact hon) j3 (ib_B8 j1 j2) (set := nI k) (set' := nI k') (by rw [ib_on_c j6, hs]) hs' (fun h ac' e' b7 b8 b9 b10 => ?_) (fun h ac' e' b7 b8 b9 b10 => ?_)
  · rw [e1, e2] at h
    exact H1 h _ ⟨rfl, j1, j2, j3, j4, j5, j6⟩
  · rw [e1, e2] at h
    exact H0 h _ ⟨rfl, j1, j2, j3, j4, j5, j6⟩
theorem ib_Zidle0 {post : Int32 → St2 → Prop} {u : St2} {i : Nat} (hz : ib_Z p q r n s t w O u) (hi : i < n) (hn : n ≤ 6) (hon : O i = 0) (H : ∀ u', ib_Z p q r n s t w O u' → post 0 u') : wpX_idle post u (nI i) := by
  obtain ⟨l, ac, d, a1, a2, a3, a4, a5, a6, a7, a8, a9, a10, a11⟩ := u
  obtain ⟨hl, j1, j2, j3, j4, j5, j6⟩ : ib_J p q r n s t w O l a1 a2 a3 a4 a5 := hz
  subst hl
  exact ib_idle0 hi hn (by rw [j6 i hi]; exact hon) (H _ ⟨rfl, j1, j2, j3, j4, j5, j6⟩)
theorem ib_Zcore {post : Int32 → St2 → Prop} {u : St2} {ev K k0 : Nat} (hz : ib_Z p q r n s t w O u) (hn : n ≤ 6) (hs : ib_on O n = nI ev) (hev : ev < 2 ^ n) (hsub : ∀ k, k < 64 → (nI k &&& (nI ev ^^^ (-1))) = 0 → k < 2 ^ n)
    (hinf : ∀ x, ib_U x → ¬ ib_T p q r s t w (nI ev) x)
    (hlo : ∀ k, k < 64 → (nI k &&& (nI ev ^^^ (-1))) = 0 → ib_pc k < K → ∃ x, ib_U x ∧ ib_T p q r s t w (nI k) x)
    (hk0 : k0 < 64) (hk1 : (nI k0 &&& (nI ev ^^^ (-1))) = 0) (hk2 : ib_pc k0 = K) (hk3 : ∀ x, ib_U x → ¬ ib_T p q r s t w (nI k0) x) (hK : K ≤ ib_pc ev)
    (H : ∀ u', ib_Z p q r n s t w O u' → post (nI K) u') : wpX_core post u := by
  obtain ⟨l, ac, d, a1, a2, a3, a4, a5, a6, a7, a8, a9, a10, a11⟩ := u
  obtain ⟨hl, j1, j2, j3, j4, j5, j6⟩ : ib_J p q r n s t w O l a1 a2 a3 a4 a5 := hz
  subst hl
  have h64 : 2 ^ n ≤ 2 ^ 6 := Nat.pow_le_pow_right (by omega) hn
  have hT : ∀ k, k < 2 ^ n → ∀ x, ib_S a3 a4 (nI k) x ↔ ib_T p q r s t w (nI k) x := fun k hk => ib_ST ⟨rfl, j1, j2, j3, j4, j5, j6⟩ hn hk
  have hU := ib_in8 j1 j2
  exact ib_core hn j3 (ib_B8 j1 j2) (by rw [ib_on_c j6, hs]) (by omega) (fun x x1 x2 => hinf x ((hU x).mp x1) ((hT ev hev x).mp x2))
    (fun k hk h1 h2 => (hlo k hk h1 h2).elim (fun x hx => ⟨x, (hU x).mpr hx.1, (hT k (hsub k hk h1) x).mpr hx.2⟩)) hk0 hk1 hk2 (fun x x1 x2 => hk3 x ((hU x).mp x1) ((hT k0 (hsub k0 hk0 hk1) x).mp x2)) hK
    (fun ac' e' b7 b8 b9 b10 b11 => H _ ⟨rfl, j1, j2, j3, j4, j5, j6⟩)
theorem ib_Zcore1 {post : Int32 → St2 → Prop} {u : St2} {k : Nat} (hz : ib_Z p q r n s t w O u) (hn : n ≤ 6) (hs : ib_on O n = nI k) (hk : k < 2 ^ n) (hx : ∃ x, ib_U x ∧ ib_T p q r s t w (nI k) x) (H : ∀ u', ib_Z p q r n s t w O u' → post (-10000) u') : wpX_core post u := by
  obtain ⟨l, ac, d, a1, a2, a3, a4, a5, a6, a7, a8, a9, a10, a11⟩ := u
  obtain ⟨hl, j1, j2, j3, j4, j5, j6⟩ : ib_J p q r n s t w O l a1 a2 a3 a4 a5 := hz
  subst hl
  obtain ⟨x, x1, x2⟩ := hx
  refine ib_core1 hn j3 (ib_B8 j1 j2) ⟨x, (ib_in8 j1 j2 x).mpr x1, ?_⟩ (fun ac' e' b7 b8 b9 b10 b11 => H _ ⟨rfl, j1, j2, j3, j4, j5, j6⟩)
  rw [ib_on_c j6, hs]
  exact (ib_ST ⟨rfl, j1, j2, j3, j4, j5, j6⟩ hn hk x).mpr x2
theorem ib_Zlimit {post : Int32 → St2 → Prop} {u : St2} {f dd : Int32} (hz : ib_Z p q r n s t w O u) (hn : n < 6) (hf : ib_ok f) (hx : ∀ x, ib_fx f x = ib_Lv p q r n x) (hd : dd.toInt = ib_D s t w n) (hd1 : -100 ≤ dd.toInt) (hd2 : dd.toInt ≤ 100) (hO : O n = 1)
    (H : ∀ u', ib_Z p q r (n + 1) s t w O u' → post (nI n) u') : wpX_limit post u f dd := by
  obtain ⟨l, ac, d, a1, a2, a3, a4, a5, a6, a7, a8, a9, a10, a11⟩ := u
  obtain ⟨hl, j1, j2, j3, j4, j5, j6⟩ : ib_J p q r n s t w O l a1 a2 a3 a4 a5 := hz
  subst hl
  refine ib_limit hn hf hd1 hd2 (fun b3 h1 h2 => H _ ⟨rfl, j1, j2, ⟨fun j hj => ?_, fun j hj => ?_⟩, fun i hi x => ?_, fun i hi => ?_, fun i hi => ?_⟩)
  · show -5 ≤ (b3 j).toInt ∧ (b3 j).toInt ≤ 5
    by_cases g : j < 3 * n ∨ 3 * n + 3 ≤ j
    · rw [h1 j g]
      exact j3.1 j hj
    · have e := h2 (j - 3 * n) (by omega)
      rw [show 3 * n + (j - 3 * n) = j by omega] at e
      rw [e]
      exact hf _ (by omega)
  · by_cases g : j = n
    · subst g
      show -100 ≤ (upd a4 j dd j).toInt ∧ (upd a4 j dd j).toInt ≤ 100
      rw [pk_us]
      exact ⟨hd1, hd2⟩
    · show -100 ≤ (upd a4 n dd j).toInt ∧ (upd a4 n dd j).toInt ≤ 100
      rw [pk_un g]
      exact j3.2 j hj
  · by_cases g : i = n
    · subst g
      rw [← hx x]
      show ib_f b3 i x = ib_fx f x
      unfold ib_f ib_fx
      rw [h2 0 (by omega), h2 1 (by omega), h2 2 (by omega)]
    · rw [← j4 i (by omega) x]
      exact ib_f_c (fun k hk => h1 _ (by omega)) x
  · by_cases g : i = n
    · subst g
      show (upd a4 i dd i).toInt = _
      rw [pk_us]
      exact hd
    · show (upd a4 n dd i).toInt = _
      rw [pk_un g]
      exact j5 i (by omega)
  · by_cases g : i = n
    · subst g
      show upd a5 i 1 i = _
      rw [pk_us, hO]
    · show upd a5 n 1 i = _
      rw [pk_un g]
      exact j6 i (by omega)
theorem ib_Zlimit_f {post : Int32 → St2 → Prop} {u : St2} {f dd : Int32} (hz : ib_Z p q r n s t w O u) (h : ¬ (ib_fo f 0).toInt ≤ 5) (H : ∀ u', ib_Z p q r n s t w O u' → post (-2) u') : wpX_limit post u f dd := by
  obtain ⟨l, ac, d, a1, a2, a3, a4, a5, a6, a7, a8, a9, a10, a11⟩ := u
  exact ib_limit_f h (H _ hz)
theorem ib_Zlimit_n {post : Int32 → St2 → Prop} {u : St2} {f dd : Int32} (hz : ib_Z p q r n s t w O u) (hf : ib_ok f) (hd : ¬ dd.toInt ≤ 100) (H : ∀ u', ib_Z p q r n s t w O u' → post (-3) u') : wpX_limit post u f dd := by
  obtain ⟨l, ac, d, a1, a2, a3, a4, a5, a6, a7, a8, a9, a10, a11⟩ := u
  exact ib_limit_n hf hd (H _ hz)
theorem ib_Zlimit_6 {post : Int32 → St2 → Prop} {u : St2} {f dd : Int32} (hz : ib_Z p q r 6 s t w O u) (hf : ib_ok f) (hd1 : -100 ≤ dd.toInt) (hd2 : dd.toInt ≤ 100) (H : ∀ u', ib_Z p q r 6 s t w O u' → post (-4) u') : wpX_limit post u f dd := by
  obtain ⟨l, ac, d, a1, a2, a3, a4, a5, a6, a7, a8, a9, a10, a11⟩ := u
  obtain ⟨hl, j1, j2, j3, j4, j5, j6⟩ : ib_J p q r 6 s t w O l a1 a2 a3 a4 a5 := hz
  subst hl
  exact ib_limit_6 hf hd1 hd2 (H _ ⟨rfl, j1, j2, j3, j4, j5, j6⟩)
theorem ib_Zgreatest_f {post : Int32 → St2 → Prop} {u : St2} {f : Int32} (h : ¬ (ib_fo f 0).toInt ≤ 5) (H : post (-2) u) : wpX_greatest post u f := by
  obtain ⟨l, ac, d, a1, a2, a3, a4, a5, a6, a7, a8, a9, a10, a11⟩ := u
  exact ib_greatest_f h H
theorem ib_Zturn {post : Int32 → St2 → Prop} {u : St2} {i : Nat} {b b' : Int32} {O' : Nat → Int32} (hz : ib_Z p q r n s t w O u) (hi : i < n) (hn : n ≤ 6) (hon : ¬ O i = 0) (hb : vp_nar .boolean b = b') (h1 : O' i = b') (h2 : ∀ j, j ≠ i → O' j = O j)
    (H : ∀ u', ib_Z p q r n s t w O' u' → post 1 u') : wpX_turn post u (nI i) b := by
  obtain ⟨l, ac, d, a1, a2, a3, a4, a5, a6, a7, a8, a9, a10, a11⟩ := u
  obtain ⟨hl, j1, j2, j3, j4, j5, j6⟩ : ib_J p q r n s t w O l a1 a2 a3 a4 a5 := hz
  subst hl
  refine ib_turn hi hn (by rw [j6 i hi]; exact hon) hb (H _ ⟨rfl, j1, j2, j3, j4, j5, fun j hj => ?_⟩)
  show upd a5 i b' j = O' j
  by_cases g : j = i
  · rw [g, pk_us, h1]
  · rw [pk_un g, h2 j g]
    exact j6 j hj
theorem ib_Zrelax {post : Int32 → St2 → Prop} {u : St2} {w' : Int} {dd : Int32} (hz : ib_Z p q r 6 s t w O u) (hd : dd.toInt = w') (hd1 : -100 ≤ dd.toInt) (hd2 : dd.toInt ≤ 100)
    (H : ∀ (c : Int32) (u' : St2), c.toInt = w → ib_Z p q r 6 s t w' O u' → post c u') : wpX_relax post u 5 dd := by
  obtain ⟨l, ac, d, a1, a2, a3, a4, a5, a6, a7, a8, a9, a10, a11⟩ := u
  obtain ⟨hl, j1, j2, j3, j4, j5, j6⟩ : ib_J p q r 6 s t w O l a1 a2 a3 a4 a5 := hz
  subst hl
  refine ib_relax (i := 5) (by omega) (by omega) hd1 hd2 (H _ _ (j5 5 (by omega)) ⟨rfl, j1, j2, ⟨j3.1, fun j hj => ?_⟩, j4, fun j hj => ?_, j6⟩)
  · show -100 ≤ (upd a4 5 dd j).toInt ∧ (upd a4 5 dd j).toInt ≤ 100
    by_cases g : j = 5
    · rw [g, pk_us]
      exact ⟨hd1, hd2⟩
    · rw [pk_un g]
      exact j3.2 j hj
  · show (upd a4 5 dd j).toInt = ib_D s t w' j
    by_cases g : j = 5
    · rw [g, pk_us]
      exact hd
    · rw [pk_un g, j5 j hj]
      unfold ib_D
      have h : j = 0 ∨ j = 1 ∨ j = 2 ∨ j = 3 ∨ j = 4 := by omega
      rcases h with rfl | rfl | rfl | rfl | rfl <;> rfl
theorem ib_Zrelax_l {post : Int32 → St2 → Prop} {u : St2} {dd : Int32} (hz : ib_Z p q r 6 s t w O u) (H : ∀ u', ib_Z p q r 6 s t w O u' → post (-5) u') : wpX_relax post u 6 dd := by
  obtain ⟨l, ac, d, a1, a2, a3, a4, a5, a6, a7, a8, a9, a10, a11⟩ := u
  obtain ⟨hl, j1, j2, j3, j4, j5, j6⟩ : ib_J p q r 6 s t w O l a1 a2 a3 a4 a5 := hz
  subst hl
  exact ib_relax_l (i := 6) (by omega) (by omega) (H _ ⟨rfl, j1, j2, j3, j4, j5, j6⟩)
theorem ib_Zrelax_n {post : Int32 → St2 → Prop} {u : St2} {dd : Int32} (hz : ib_Z p q r 6 s t w O u) (hd : dd.toInt < -100) (H : ∀ u', ib_Z p q r 6 s t w O u' → post (-3) u') : wpX_relax post u 5 dd := by
  obtain ⟨l, ac, d, a1, a2, a3, a4, a5, a6, a7, a8, a9, a10, a11⟩ := u
  obtain ⟨hl, j1, j2, j3, j4, j5, j6⟩ : ib_J p q r 6 s t w O l a1 a2 a3 a4 a5 := hz
  subst hl
  exact ib_relax_n (i := 5) (by omega) (by omega) hd (H _ ⟨rfl, j1, j2, j3, j4, j5, j6⟩)
theorem ib_Zdrop {post : Int32 → St2 → Prop} {u : St2} (hz : ib_Z p q r (n + 1) s t w O u) (hn : n < 6) (H : ∀ u', ib_Z p q r n s t w O u' → post (nI n) u') : wpX_drop post u := by
  obtain ⟨l, ac, d, a1, a2, a3, a4, a5, a6, a7, a8, a9, a10, a11⟩ := u
  obtain ⟨hl, j1, j2, j3, j4, j5, j6⟩ : ib_J p q r (n + 1) s t w O l a1 a2 a3 a4 a5 := hz
  subst hl
  exact ib_dropM hn (H _ ⟨rfl, j1, j2, j3, fun i hi => j4 i (by omega), fun i hi => j5 i (by omega), fun i hi => j6 i (by omega)⟩)
theorem ib_Zdrop0 {post : Int32 → St2 → Prop} {u : St2} (hz : ib_Z p q r 0 s t w O u) (H : ∀ u', ib_Z p q r 0 s t w O u' → post (-5) u') : wpX_drop post u := by
  obtain ⟨l, ac, d, a1, a2, a3, a4, a5, a6, a7, a8, a9, a10, a11⟩ := u
  obtain ⟨hl, j1, j2, j3, j4, j5, j6⟩ : ib_J p q r 0 s t w O l a1 a2 a3 a4 a5 := hz
  subst hl
  exact ib_drop0 (H _ ⟨rfl, j1, j2, j3, j4, j5, j6⟩)
theorem ib_Ztight_0 {post : Int32 → St2 → Prop} {u : St2} (hz : ib_Z p q r 0 s t w O u) (H : ∀ u', ib_Z p q r 0 s t w O u' → post (-5) u') : wpX_tight post u 0 := by
  obtain ⟨l, ac, d, a1, a2, a3, a4, a5, a6, a7, a8, a9, a10, a11⟩ := u
  obtain ⟨hl, j1, j2, j3, j4, j5, j6⟩ : ib_J p q r 0 s t w O l a1 a2 a3 a4 a5 := hz
  subst hl
  exact ib_tight_l (i := 0) (by omega) (by omega) (H _ ⟨rfl, j1, j2, j3, j4, j5, j6⟩)
end
end
section
/-! the law's factors -/
def ib_up (p q : Nat) : Int32 := (1365 + ((1 : Int32) <<< ((4 * nI p) &&& 31))) + ((1 : Int32) <<< ((4 * nI q) &&& 31))
def ib_dn (p q : Nat) : Int32 := (1365 - ((1 : Int32) <<< ((4 * nI p) &&& 31))) - ((1 : Int32) <<< ((4 * nI q) &&& 31))
def ib_fi (r : Nat) : Int32 := 1365 + ((1 : Int32) <<< ((4 * nI r) &&& 31))
def ib_ba (r : Nat) : Int32 := 1365 - ((1 : Int32) <<< ((4 * nI r) &&& 31))
def ib_tw (p : Nat) : Int32 := 1365 + ((2 : Int32) <<< ((4 * nI p) &&& 31))
def ib_df (p q : Nat) : Int32 := (1365 + ((1 : Int32) <<< ((4 * nI p) &&& 31))) - ((1 : Int32) <<< ((4 * nI q) &&& 31))
theorem ib_up0 : ∀ p, p < 3 → ∀ q, q < 3 → p ≠ q → ∀ k, k < 3 → (ib_fo (ib_up p q) k).toInt = if k = p then 1 else if k = q then 1 else 0 := by decide +kernel
theorem ib_dn0 : ∀ p, p < 3 → ∀ q, q < 3 → p ≠ q → ∀ k, k < 3 → (ib_fo (ib_dn p q) k).toInt = if k = p then -1 else if k = q then -1 else 0 := by decide +kernel
theorem ib_fi0 : ∀ r, r < 3 → ∀ k, k < 3 → (ib_fo (ib_fi r) k).toInt = if k = r then 1 else 0 := by decide +kernel
theorem ib_ba0 : ∀ r, r < 3 → ∀ k, k < 3 → (ib_fo (ib_ba r) k).toInt = if k = r then -1 else 0 := by decide +kernel
theorem ib_tw0 : ∀ r, r < 3 → ∀ k, k < 3 → (ib_fo (ib_tw r) k).toInt = if k = r then 2 else 0 := by decide +kernel
theorem ib_df0 : ∀ p, p < 3 → ∀ q, q < 3 → p ≠ q → ∀ k, k < 3 → (ib_fo (ib_df p q) k).toInt = if k = p then 1 else if k = q then -1 else 0 := by decide +kernel
theorem ib_two2 {p q r : Nat} (hp : ib_pm p q r) {f : Int32} {a b : Int} (ha : -5 ≤ a ∧ a ≤ 5) (hb : -5 ≤ b ∧ b ≤ 5) (h : ∀ k, k < 3 → (ib_fo f k).toInt = if k = p then a else if k = q then b else 0) : ib_ok f ∧ ∀ x, ib_fx f x = a * x p + b * x q := by
  refine ⟨fun k hk => ?_, fun x => ?_⟩
  · rw [h k hk]
    split
    · exact ha
    · split
      · exact hb
      · omega
  · unfold ib_fx
    rw [h 0 (by omega), h 1 (by omega), h 2 (by omega)]
    rcases hp with ⟨rfl, rfl, rfl⟩ | ⟨rfl, rfl, rfl⟩ | ⟨rfl, rfl, rfl⟩ | ⟨rfl, rfl, rfl⟩ | ⟨rfl, rfl, rfl⟩ | ⟨rfl, rfl, rfl⟩ <;> simp <;> omega
theorem ib_one1 {r : Nat} (hr : r < 3) {f : Int32} {a : Int} (ha : -5 ≤ a ∧ a ≤ 5) (h : ∀ k, k < 3 → (ib_fo f k).toInt = if k = r then a else 0) : ib_ok f ∧ ∀ x, ib_fx f x = a * x r := by
  refine ⟨fun k hk => ?_, fun x => ?_⟩
  · rw [h k hk]
    split
    · exact ha
    · omega
  · unfold ib_fx
    rw [h 0 (by omega), h 1 (by omega), h 2 (by omega)]
    have h3 : r = 0 ∨ r = 1 ∨ r = 2 := by omega
    rcases h3 with rfl | rfl | rfl <;> simp
theorem ib_fU {p q r : Nat} (hp : ib_pm p q r) : ib_ok (ib_up p q) ∧ ∀ x, ib_fx (ib_up p q) x = x p + x q := by
  obtain ⟨h1, h2, h3, h4⟩ := ib_pm3 hp
  have g := ib_two2 hp (a := 1) (b := 1) (by omega) (by omega) (ib_up0 p h1 q h2 h4)
  exact ⟨g.1, fun x => by rw [g.2 x]; omega⟩
theorem ib_fD {p q r : Nat} (hp : ib_pm p q r) : ib_ok (ib_dn p q) ∧ ∀ x, ib_fx (ib_dn p q) x = -(x p + x q) := by
  obtain ⟨h1, h2, h3, h4⟩ := ib_pm3 hp
  have g := ib_two2 hp (a := -1) (b := -1) (by omega) (by omega) (ib_dn0 p h1 q h2 h4)
  exact ⟨g.1, fun x => by rw [g.2 x]; omega⟩
theorem ib_fF {p q r : Nat} (hp : ib_pm p q r) : ib_ok (ib_fi r) ∧ ∀ x, ib_fx (ib_fi r) x = x r := by
  obtain ⟨h1, h2, h3, h4⟩ := ib_pm3 hp
  have g := ib_one1 h3 (a := 1) (by omega) (ib_fi0 r h3)
  exact ⟨g.1, fun x => by rw [g.2 x]; omega⟩
theorem ib_fB {p q r : Nat} (hp : ib_pm p q r) : ib_ok (ib_ba r) ∧ ∀ x, ib_fx (ib_ba r) x = -(x r) := by
  obtain ⟨h1, h2, h3, h4⟩ := ib_pm3 hp
  have g := ib_one1 h3 (a := -1) (by omega) (ib_ba0 r h3)
  exact ⟨g.1, fun x => by rw [g.2 x]; omega⟩
theorem ib_fT {p q r : Nat} (hp : ib_pm p q r) : ib_ok (ib_tw p) ∧ ∀ x, ib_fx (ib_tw p) x = 2 * x p := by
  obtain ⟨h1, h2, h3, h4⟩ := ib_pm3 hp
  exact ib_one1 h1 (a := 2) (by omega) (ib_tw0 p h1)
theorem ib_fM {p q r : Nat} (hp : ib_pm p q r) : ib_ok (ib_df p q) ∧ ∀ x, ib_fx (ib_df p q) x = x p - x q := by
  obtain ⟨h1, h2, h3, h4⟩ := ib_pm3 hp
  have g := ib_two2 hp (a := 1) (b := -1) (by omega) (by omega) (ib_df0 p h1 q h2 h4)
  exact ⟨g.1, fun x => by rw [g.2 x]; omega⟩
/-! the first point -/
theorem ib_lf3 {x y : Nat → Int} (h : ib_lf x y) : (x 0 ≤ y 0 ∧ x 1 ≤ y 1 ∧ x 2 ≤ y 2) ∨ x 0 < y 0 ∨ (x 0 = y 0 ∧ x 1 < y 1) ∨ (x 0 = y 0 ∧ x 1 = y 1 ∧ x 2 < y 2) := by
  rcases h with h | ⟨v, hv, h1, h2⟩
  · exact Or.inl ⟨h 0 (by omega), h 1 (by omega), h 2 (by omega)⟩
  · have h3 : v = 0 ∨ v = 1 ∨ v = 2 := by omega
    rcases h3 with rfl | rfl | rfl
    · exact Or.inr (Or.inl h2)
    · exact Or.inr (Or.inr (Or.inl ⟨h1 0 (by omega), h2⟩))
    · exact Or.inr (Or.inr (Or.inr ⟨h1 0 (by omega), h1 1 (by omega), h2⟩))
def ib_lo (s : Int) : Int := if s < 0 then -8 else s - 8
def ib_hi (s : Int) : Int := if s < 0 then s + 8 else 8
theorem ib_lob {s : Int} (h1 : -16 ≤ s) (h2 : s ≤ 16) : -8 ≤ ib_lo s ∧ ib_lo s ≤ ib_hi s ∧ ib_hi s ≤ 8 ∧ ib_lo s + ib_hi s = s := by
  unfold ib_lo ib_hi
  split <;> omega
theorem ib_lom {s a b : Int} (h1 : -8 ≤ a) (h2 : a ≤ 8) (h3 : -8 ≤ b) (h4 : b ≤ 8) (h : a + b = s) : ib_lo s ≤ a ∧ a ≤ ib_hi s := by
  unfold ib_lo ib_hi
  split <;> omega
theorem ib_fst {p q r : Nat} (hp : ib_pm p q r) {s t : Int} (hs1 : -16 ≤ s) (hs2 : s ≤ 16) (ht1 : -8 ≤ t) (ht2 : t ≤ 8) {x : Nat → Int} (hx : ib_U x) (h : x p + x q = s ∧ x r = t) (hl : ∀ y, ib_U y → y p + y q = s ∧ y r = t → ib_lf x y) :
    x (if q ≤ p then q else p) = ib_lo s ∧ x (if q ≤ p then p else q) = s - ib_lo s := by
  have hb := ib_lob hs1 hs2
  have hu := ib_Up hp hx
  have m1 := ib_lom hu.1.1 hu.1.2 hu.2.1.1 hu.2.1.2 h.1
  have m2 := ib_lom hu.2.1.1 hu.2.1.2 hu.1.1 hu.1.2 (by omega : x q + x p = s)
  by_cases g : q ≤ p
  · obtain ⟨y, y1, y2, y3, y4⟩ := ib_at hp (a := s - ib_lo s) (b := ib_lo s) (c := t) (by omega) (by omega) (by omega) (by omega) ht1 ht2
    have w := ib_lf3 (hl y y1 ⟨by omega, y4⟩)
    rw [if_pos g, if_pos g]
    rcases hp with ⟨rfl, rfl, rfl⟩ | ⟨rfl, rfl, rfl⟩ | ⟨rfl, rfl, rfl⟩ | ⟨rfl, rfl, rfl⟩ | ⟨rfl, rfl, rfl⟩ | ⟨rfl, rfl, rfl⟩ <;> omega
  · obtain ⟨y, y1, y2, y3, y4⟩ := ib_at hp (a := ib_lo s) (b := s - ib_lo s) (c := t) (by omega) (by omega) (by omega) (by omega) ht1 ht2
    have w := ib_lf3 (hl y y1 ⟨by omega, y4⟩)
    rw [if_neg g, if_neg g]
    rcases hp with ⟨rfl, rfl, rfl⟩ | ⟨rfl, rfl, rfl⟩ | ⟨rfl, rfl, rfl⟩ | ⟨rfl, rfl, rfl⟩ | ⟨rfl, rfl, rfl⟩ | ⟨rfl, rfl, rfl⟩ <;> omega
theorem ib_fst2 {p q r : Nat} (hp : ib_pm p q r) {s t : Int} (ht1 : -8 ≤ t) (ht2 : t ≤ 7) {x : Nat → Int} (hx : ib_U x) (h : x p + x q = s ∧ t + 1 ≤ x r) (hl : ∀ y, ib_U y → y p + y q = s ∧ t + 1 ≤ y r → ib_lf x y) : x r = t + 1 := by
  have hu := ib_Up hp hx
  obtain ⟨y, y1, y2, y3, y4⟩ := ib_at hp (a := x p) (b := x q) (c := t + 1) (by omega) (by omega) (by omega) (by omega) (by omega) (by omega)
  have w := ib_lf3 (hl y y1 ⟨by omega, by omega⟩)
  rcases hp with ⟨rfl, rfl, rfl⟩ | ⟨rfl, rfl, rfl⟩ | ⟨rfl, rfl, rfl⟩ | ⟨rfl, rfl, rfl⟩ | ⟨rfl, rfl, rfl⟩ | ⟨rfl, rfl, rfl⟩ <;> omega
/-! masks -/
theorem ib_mk1 : ∀ b, b < 17 → ∀ a, a ≤ b → ib_mk (fun j => decide (a ≤ j ∧ j ≤ b)) 17 = ((1 : Int32) <<< (nI (b + 1) &&& 31)) - ((1 : Int32) <<< (nI a &&& 31)) := by decide +kernel
theorem ib_mk2 : ∀ c, c < 17 → ib_mk (fun j => decide (j = c)) 17 = (1 : Int32) <<< (nI c &&& 31) := by decide +kernel
theorem ib_ex {p q r : Nat} (hp : ib_pm p q r) {s t : Int} (hs1 : -16 ≤ s) (hs2 : s ≤ 16) (ht1 : -8 ≤ t) (ht2 : t ≤ 8) {a : Int} : (∃ x, ib_U x ∧ (x p + x q = s ∧ x r = t) ∧ x p = a) ↔ ib_lo s ≤ a ∧ a ≤ ib_hi s := by
  have hb := ib_lob hs1 hs2
  constructor
  · intro ⟨x, x1, x2, x3⟩
    have hu := ib_Up hp x1
    have m := ib_lom hu.1.1 hu.1.2 hu.2.1.1 hu.2.1.2 x2.1
    omega
  · intro h
    obtain ⟨y, y1, y2, y3, y4⟩ := ib_at hp (a := a) (b := s - a) (c := t) (by omega) (by omega) (by omega) (by omega) ht1 ht2
    exact ⟨y, y1, ⟨by omega, y4⟩, y2⟩
theorem ib_exq {p q r : Nat} (hp : ib_pm p q r) {s t : Int} (hs1 : -16 ≤ s) (hs2 : s ≤ 16) (ht1 : -8 ≤ t) (ht2 : t ≤ 8) {a : Int} : (∃ x, ib_U x ∧ (x p + x q = s ∧ x r = t) ∧ x q = a) ↔ ib_lo s ≤ a ∧ a ≤ ib_hi s := by
  have hb := ib_lob hs1 hs2
  constructor
  · intro ⟨x, x1, x2, x3⟩
    have hu := ib_Up hp x1
    have m := ib_lom hu.2.1.1 hu.2.1.2 hu.1.1 hu.1.2 (by omega : x q + x p = s)
    omega
  · intro h
    obtain ⟨y, y1, y2, y3, y4⟩ := ib_at hp (a := s - a) (b := a) (c := t) (by omega) (by omega) (by omega) (by omega) ht1 ht2
    exact ⟨y, y1, ⟨by omega, y4⟩, y3⟩
theorem ib_exr {p q r : Nat} (hp : ib_pm p q r) {s t : Int} (hs1 : -16 ≤ s) (hs2 : s ≤ 16) (ht1 : -8 ≤ t) (ht2 : t ≤ 8) {a : Int} : (∃ x, ib_U x ∧ (x p + x q = s ∧ x r = t) ∧ x r = a) ↔ a = t := by
  have hb := ib_lob hs1 hs2
  constructor
  · intro ⟨x, x1, x2, x3⟩
    omega
  · intro h
    obtain ⟨y, y1, y2, y3, y4⟩ := ib_at hp (a := ib_lo s) (b := ib_hi s) (c := t) (by omega) (by omega) (by omega) (by omega) ht1 ht2
    exact ⟨y, y1, ⟨by omega, y4⟩, by omega⟩
theorem ib_prF : ib_pr (fun _ => False) = 0 := ib_su_0 (fun i _ => ib_su_0 (fun j _ => ib_d0 (fun h => h)))
theorem ib_mb17 {a b : Int} (h1 : 0 ≤ a) (h2 : a ≤ 17) (h3 : 0 ≤ b) (h4 : b ≤ 17) : 0 ≤ a * b ∧ a * b ≤ 289 := by
  have g1 := Int.mul_nonneg h1 h3
  have g2 := Int.mul_le_mul_of_nonneg_right h2 h3
  omega
def ib_nn (s : Int) : Int := if s < 0 then 17 + s else 17 - s
theorem ib_nnb {s : Int} (h1 : -16 ≤ s) (h2 : s ≤ 16) : 1 ≤ ib_nn s ∧ ib_nn s ≤ 17 := by
  unfold ib_nn
  split <;> omega
/-- x16 * (m - x11) -/
theorem ib_m9 {x y m : Int32} {s t : Int} (hs1 : -16 ≤ s) (hs2 : s ≤ 16) (ht1 : -8 ≤ t) (ht2 : t ≤ 8) (hx : x.toInt = ib_nn s) (hy : y.toInt = t) (hm1 : 8 ≤ m.toInt) (hm2 : m.toInt ≤ 9) : (x * (m - y)).toInt = ib_nn s * (m.toInt - t) := by
  have b := ib_nnb hs1 hs2
  have e : (m - y).toInt = m.toInt - t := by rw [ib_sub (by omega) (by omega), hy]
  have g := ib_mb17 (a := ib_nn s) (b := m.toInt - t) (by omega) (by omega) (by omega) (by omega)
  rw [ib_mul (by rw [hx, e]; omega) (by rw [hx, e]; omega), hx, e]
/-! small sets of limits -/
theorem ib_sub31 : (∀ k, k < 64 → (nI k &&& (nI 31 ^^^ (-1))) = 0 → k < 2 ^ 5) ∧ (∀ k, k < 64 → (nI k &&& (nI 31 ^^^ (-1))) = 0 → ib_pc k < 2 → k = 0 ∨ k = 1 ∨ k = 2 ∨ k = 4 ∨ k = 8 ∨ k = 16) := by decide +kernel
theorem ib_sub43 : (∀ k, k < 64 → (nI k &&& (nI 43 ^^^ (-1))) = 0 → ib_pc k < 2 → k = 0 ∨ k = 1 ∨ k = 2 ∨ k = 8 ∨ k = 32) := by decide +kernel
theorem ib_pc1 : ∀ k, k < 64 → ib_pc k < 1 → k = 0 := by decide +kernel
end
section
section
variable {p q r : Nat} {s t w : Int} {post : Int32 → St0 → Prop} {mc ms kc ks : Nat} {x3 x4 x10 x11 x16 x17 x18 x20 z : Int32} {l ac d : Int32} {a1 a2 a3 a4 a5 a6 a7 a8 a9 a10 a11 : Nat → Int32}
def ib_Oo (a b c : Int32) : Nat → Int32 := fun i => if i = 0 then a else if i = 2 then b else if i = 4 then c else 1
theorem ib_o15 : ib_on (ib_Oo 1 1 1) 4 = nI 15 := by decide +kernel
theorem ib_o31 : ib_on (ib_Oo 1 1 1) 5 = nI 31 := by decide +kernel
theorem ib_o27 : ib_on (ib_Oo 1 0 1) 5 = nI 27 := by decide +kernel
theorem ib_o11 : ib_on (ib_Oo 1 0 0) 5 = nI 11 := by decide +kernel
theorem ib_o43 : ib_on (ib_Oo 1 0 0) 6 = nI 43 := by decide +kernel
theorem ib_o42 : ib_on (ib_Oo 0 0 0) 6 = nI 42 := by decide +kernel
theorem ib_hc9 (hp : ib_pm p q r) (hs1 : -16 ≤ s) (hs2 : s ≤ 16) (ht1 : -8 ≤ t) (ht2 : t ≤ 8) (h10 : x10.toInt = s) (h11 : x11.toInt = t) (h16 : x16.toInt = ib_nn s) (hP : post 1 ()) : (x16 * (9 - x11)).toInt = ((ib_pr (fun u => u = s) * ib_sg (fun c => t ≤ c) : Nat) : Int) := by
  have z9 : (9 : Int32).toInt = 9 := by decide
  rw [ib_m9 hs1 hs2 ht1 ht2 h16 h11 (by decide) (by decide), Int.natCast_mul, ib_pr1 hs1 hs2, ib_sg2 ht1 ht2, z9]
  rfl
theorem ib_hc8 (hp : ib_pm p q r) (hs1 : -16 ≤ s) (hs2 : s ≤ 16) (ht1 : -8 ≤ t) (ht2 : t ≤ 8) (h10 : x10.toInt = s) (h11 : x11.toInt = t) (h16 : x16.toInt = ib_nn s) (hP : post 1 ()) : (x16 * (8 - x11)).toInt = ((ib_pr (fun u => u = s) * ib_sg (fun c => t + 1 ≤ c) : Nat) : Int) := by
  have z8 : (8 : Int32).toInt = 8 := by decide
  rw [ib_m9 hs1 hs2 ht1 ht2 h16 h11 (by decide) (by decide), Int.natCast_mul, ib_pr1 hs1 hs2, ib_sg3 ht1 ht2, z8]
  rfl
theorem ib_hcn (hp : ib_pm p q r) (hs1 : -16 ≤ s) (hs2 : s ≤ 16) (ht1 : -8 ≤ t) (ht2 : t ≤ 8) (h10 : x10.toInt = s) (h11 : x11.toInt = t) (h16 : x16.toInt = ib_nn s) (hP : post 1 ()) : x16.toInt = ((ib_pr (fun u => u = s) * ib_sg (fun c => c = t) : Nat) : Int) := by
  rw [ib_sg1 ht1 ht2, Nat.mul_one, ib_pr1 hs1 hs2, h16]
  rfl
theorem ib_hct (hp : ib_pm p q r) (hs1 : -16 ≤ s) (hs2 : s ≤ 16) (ht1 : -8 ≤ t) (ht2 : t ≤ 8) (h10 : x10.toInt = s) (h11 : x11.toInt = t) (h16 : x16.toInt = ib_nn s) (hP : post 1 ()) : (if t < 8 then x16 else 0).toInt = ((ib_pr (fun u => u = s) * ib_sg (fun c => c = t + 1) : Nat) : Int) := by
  rw [ib_sg4 ht1 ht2]
  by_cases g : t < 8
  · rw [if_pos g, if_pos g, Nat.mul_one, ib_pr1 hs1 hs2, h16]
    rfl
  · rw [if_neg g, if_neg g, Nat.mul_zero]
    decide
theorem ib_hc0 : (0 : Int32).toInt = ((ib_pr (fun _ => False) * ib_sg (fun _ => True) : Nat) : Int) := by
  rw [ib_prF, Nat.zero_mul]
  decide
/-- the end: six drops -/
theorem ib_c951 {O : Nat → Int32} (hp : ib_pm p q r) (hP : post 1 ()) (hz : ib_Z p q r 6 s t w O (l, ac, d, a1, a2, a3, a4, a5, a6, a7, a8, a9, a10, a11)) : ∃ fu, wL_lawOf_951 post mc ms kc ks fu 0 l ac d a1 a2 a3 a4 a5 a6 a7 a8 a9 a10 a11 := by
  refine pk_loop (σ := St2) (fun m k u => wL_lawOf_951 post mc ms kc ks m (nI k) u.1 u.2.1 u.2.2.1 u.2.2.2.1 u.2.2.2.2.1 u.2.2.2.2.2.1 u.2.2.2.2.2.2.1 u.2.2.2.2.2.2.2.1 u.2.2.2.2.2.2.2.2.1 u.2.2.2.2.2.2.2.2.2.1 u.2.2.2.2.2.2.2.2.2.2.1 u.2.2.2.2.2.2.2.2.2.2.2.1 u.2.2.2.2.2.2.2.2.2.2.2.2.1 u.2.2.2.2.2.2.2.2.2.2.2.2.2) (fun k u => ib_Z p q r (6 - k) s t w O u) 6 0 (l, ac, d, a1, a2, a3, a4, a5, a6, a7, a8, a9, a10, a11) (by omega) hz ?_ ?_
  · intro m u hz0
    obtain ⟨l, ac, d, a1, a2, a3, a4, a5, a6, a7, a8, a9, a10, a11⟩ := u
    have hz : ib_Z p q r 0 s t w O (l, ac, d, a1, a2, a3, a4, a5, a6, a7, a8, a9, a10, a11) := hz0
    refine pk_le 6 6 (fun _ => ?_) (fun t => absurd t (by omega))
    refine ib_Zpoints (k := 0) (A := fun _ => True) (C := fun _ => True) (c := 4913) hz (by omega) rfl (by decide) hp (fun x => ib_T0.trans ⟨fun _ => ⟨trivial, trivial⟩, fun _ => trivial⟩) (by rw [ib_pr0, ib_sg0]; decide) (fun u hz => ?_)
    obtain ⟨l, ac, d, a1, a2, a3, a4, a5, a6, a7, a8, a9, a10, a11⟩ := u
    refine br_t rfl (ib_Zcore1 (k := 0) hz (by omega) rfl (by decide) ⟨fun _ => 0, fun k hk => by dsimp only; omega, ib_T0.mpr trivial⟩ (fun u hz => ?_))
    obtain ⟨l, ac, d, a1, a2, a3, a4, a5, a6, a7, a8, a9, a10, a11⟩ := u
    refine br_t rfl (ib_Zdrop0 hz (fun u hz => ?_))
    obtain ⟨l, ac, d, a1, a2, a3, a4, a5, a6, a7, a8, a9, a10, a11⟩ := u
    refine br_t rfl (ib_Ztight_0 hz (fun u hz => ?_))
    obtain ⟨l, ac, d, a1, a2, a3, a4, a5, a6, a7, a8, a9, a10, a11⟩ := u
    exact br_t rfl (ib_Zgreatest_f (by decide +kernel) (br_t rfl hP))
  · intro m k u hk hz hw
    obtain ⟨l, ac, d, a1, a2, a3, a4, a5, a6, a7, a8, a9, a10, a11⟩ := u
    refine pk_le 6 k (fun t => absurd t (by omega)) (fun _ => ?_)
    have hz' : ib_Z p q r ((5 - k) + 1) s t w O (l, ac, d, a1, a2, a3, a4, a5, a6, a7, a8, a9, a10, a11) := by
      rw [show 5 - k + 1 = 6 - k by omega]
      exact hz
    refine ib_Zdrop hz' (by omega) (fun u hz => ?_)
    obtain ⟨l, ac, d, a1, a2, a3, a4, a5, a6, a7, a8, a9, a10, a11⟩ := u
    refine br_t (pk_sub (a := 5) (by omega)).symm (nm_r (nI_1 k) (hw (l, ac, d, a1, a2, a3, a4, a5, a6, a7, a8, a9, a10, a11) ?_))
    show ib_Z p q r (6 - (k + 1)) s t w O (l, ac, d, a1, a2, a3, a4, a5, a6, a7, a8, a9, a10, a11)
    rw [show 6 - (k + 1) = 5 - k by omega]
    exact hz
theorem ib_c943 {O : Nat → Int32} (hp : ib_pm p q r) (hP : post 1 ()) (hz : ib_Z p q r 6 s t w O (l, ac, d, a1, a2, a3, a4, a5, a6, a7, a8, a9, a10, a11)) : wL_lawOf_943 post mc ms z z kc ks l ac d a1 a2 a3 a4 a5 a6 a7 a8 a9 a10 a11 := by
  unfold wL_lawOf_943
  exact br_t rfl (ib_c951 hp hP hz)
theorem ib_c902a (hp : ib_pm p q r) (hs1 : -16 ≤ s) (hs2 : s ≤ 16) (ht1 : -8 ≤ t) (ht2 : t ≤ 8) (h10 : x10.toInt = s) (h11 : x11.toInt = t) (h16 : x16.toInt = ib_nn s) (hP : post 1 ()) (h4 : (x4 &&& 1) = 0) (hz : ib_Z p q r 6 s t s (ib_Oo 1 0 0) (l, ac, d, a1, a2, a3, a4, a5, a6, a7, a8, a9, a10, a11)) : wL_lawOf_902 post mc ms x4 x11 x16 0 0 kc ks l ac d a1 a2 a3 a4 a5 a6 a7 a8 a9 a10 a11 := by
  unfold wL_lawOf_902
  refine ib_Zturn (i := 0) (b' := 0) (O' := ib_Oo 0 0 0) hz (by omega) (by omega) (by decide +kernel) rfl rfl (fun j hj => ?_) (fun u hz => ?_)
  · unfold ib_Oo
    rw [if_neg hj, if_neg hj]
  obtain ⟨l, ac, d, a1, a2, a3, a4, a5, a6, a7, a8, a9, a10, a11⟩ := u
  refine br_t rfl (ib_Zpoints (k := 42) (A := fun u => u = s) (C := fun c => t ≤ c) (c := x16 * (9 - x11)) hz (by omega) ib_o42 (by decide) hp (fun x => ib_T42.trans (by first | omega | (dsimp only; omega))) (ib_hc9 hp hs1 hs2 ht1 ht2 h10 h11 h16 hP) (fun u hz => ?_))
  obtain ⟨l, ac, d, a1, a2, a3, a4, a5, a6, a7, a8, a9, a10, a11⟩ := u
  refine br_t rfl (ib_Zidle0 (i := 0) hz (by omega) (by omega) rfl (fun u hz => ?_))
  obtain ⟨l, ac, d, a1, a2, a3, a4, a5, a6, a7, a8, a9, a10, a11⟩ := u
  exact br_t h4 (ib_c943 hp hP hz)
theorem ib_c902b (hp : ib_pm p q r) (hs1 : -16 ≤ s) (hs2 : s ≤ 16) (ht1 : -8 ≤ t) (ht2 : t ≤ 8) (h10 : x10.toInt = s) (h11 : x11.toInt = t) (h16 : x16.toInt = ib_nn s) (hP : post 1 ()) (h4 : ¬ (x4 &&& 1) = 0) (hz : ib_Z p q r 6 s t s (ib_Oo 1 0 0) (l, ac, d, a1, a2, a3, a4, a5, a6, a7, a8, a9, a10, a11)) : wL_lawOf_902 post mc ms x4 x11 x16 1 0 kc ks l ac d a1 a2 a3 a4 a5 a6 a7 a8 a9 a10 a11 := by
  unfold wL_lawOf_902
  refine ib_Zturn (i := 0) (b' := 1) (O' := ib_Oo 1 0 0) hz (by omega) (by omega) (by decide +kernel) rfl rfl (fun j hj => rfl) (fun u hz => ?_)
  obtain ⟨l, ac, d, a1, a2, a3, a4, a5, a6, a7, a8, a9, a10, a11⟩ := u
  refine br_t rfl (ib_Zpoints (k := 43) (A := fun u => u = s) (C := fun c => t ≤ c) (c := x16 * (9 - x11)) hz (by omega) ib_o43 (by decide) hp (fun x => ib_T43.trans (by first | omega | (dsimp only; omega))) (ib_hc9 hp hs1 hs2 ht1 ht2 h10 h11 h16 hP) (fun u hz => ?_))
  obtain ⟨l, ac, d, a1, a2, a3, a4, a5, a6, a7, a8, a9, a10, a11⟩ := u
  refine br_t rfl (ib_Zidle (i := 0) (k := 43) (k' := 42) (A := fun u => u = s) (C := fun c => t ≤ c) (A' := fun u => u = s) (C' := fun c => t ≤ c) hz (by omega) (by omega) ib_o43 (by decide) hp (by decide +kernel) (by decide +kernel) (by decide)
    (fun x => ib_T43.trans (by first | omega | (dsimp only; omega))) (fun x => ib_T42.trans (by first | omega | (dsimp only; omega))) (fun _ u hz => ?_) (fun h => absurd rfl h))
  obtain ⟨l, ac, d, a1, a2, a3, a4, a5, a6, a7, a8, a9, a10, a11⟩ := u
  exact br_f h4 (ib_c943 hp hP hz)
theorem ib_c771 (hp : ib_pm p q r) (hs1 : -16 ≤ s) (hs2 : s ≤ 16) (ht1 : -8 ≤ t) (ht2 : t ≤ 8) (h10 : x10.toInt = s) (h11 : x11.toInt = t) (h16 : x16.toInt = ib_nn s) (hP : post 1 ()) (h20 : ((x10 - x20) - 1).toInt = w) (hz : ib_Z p q r 6 s t w (ib_Oo 1 0 0) (l, ac, d, a1, a2, a3, a4, a5, a6, a7, a8, a9, a10, a11)) : wL_lawOf_771 post mc ms x4 x10 x11 (ib_up p q) x16 x20 z z kc ks l ac d a1 a2 a3 a4 a5 a6 a7 a8 a9 a10 a11 := by
  unfold wL_lawOf_771
  refine br_t rfl (ib_Zlimit_6 hz (ib_fU hp).1 (by decide) (by decide) (fun u hz => ?_))
  obtain ⟨l, ac, d, a1, a2, a3, a4, a5, a6, a7, a8, a9, a10, a11⟩ := u
  refine br_t rfl (ib_Zlimit_f hz (by decide +kernel) (fun u hz => ?_))
  obtain ⟨l, ac, d, a1, a2, a3, a4, a5, a6, a7, a8, a9, a10, a11⟩ := u
  refine br_t rfl (ib_Zlimit_n hz (ib_fU hp).1 (by decide) (fun u hz => ?_))
  obtain ⟨l, ac, d, a1, a2, a3, a4, a5, a6, a7, a8, a9, a10, a11⟩ := u
  refine br_t rfl (ib_Zrelax (w' := s) hz h10 (by omega) (by omega) (fun c u hc hz => ?_))
  obtain ⟨l, ac, d, a1, a2, a3, a4, a5, a6, a7, a8, a9, a10, a11⟩ := u
  refine br_t (Int32.toInt_inj.mp (by rw [hc, h20])) (ib_Zpoints (k := 43) (A := fun u => u = s) (C := fun c => t ≤ c) (c := x16 * (9 - x11)) hz (by omega) ib_o43 (by decide) hp (fun x => ib_T43.trans (by first | omega | (dsimp only; omega))) (ib_hc9 hp hs1 hs2 ht1 ht2 h10 h11 h16 hP) (fun u hz => ?_))
  obtain ⟨l, ac, d, a1, a2, a3, a4, a5, a6, a7, a8, a9, a10, a11⟩ := u
  refine br_t rfl (ib_Zidle (i := 5) (k := 43) (k' := 11) (A := fun u => u = s) (C := fun c => t ≤ c) (A' := fun u => u = s) (C' := fun c => t ≤ c) hz (by omega) (by omega) ib_o43 (by decide) hp (by decide +kernel) (by decide +kernel) (by decide)
    (fun x => ib_T43.trans (by first | omega | (dsimp only; omega))) (fun x => ib_T11.trans (by first | omega | (dsimp only; omega))) (fun _ u hz => ?_) (fun h => absurd rfl h))
  obtain ⟨l, ac, d, a1, a2, a3, a4, a5, a6, a7, a8, a9, a10, a11⟩ := u
  refine br_f ib_10 (ib_Zrelax_l hz (fun u hz => ?_))
  obtain ⟨l, ac, d, a1, a2, a3, a4, a5, a6, a7, a8, a9, a10, a11⟩ := u
  refine br_t rfl (ib_Zrelax_n hz (by decide) (fun u hz => ?_))
  obtain ⟨l, ac, d, a1, a2, a3, a4, a5, a6, a7, a8, a9, a10, a11⟩ := u
  exact br_t rfl (br_c (fun h4 => ib_c902a hp hs1 hs2 ht1 ht2 h10 h11 h16 hP h4 hz) (fun h4 => ib_c902b hp hs1 hs2 ht1 ht2 h10 h11 h16 hP h4 hz))
theorem ib_c697 (hp : ib_pm p q r) (hs1 : -16 ≤ s) (hs2 : s ≤ 16) (ht1 : -8 ≤ t) (ht2 : t ≤ 8) (h10 : x10.toInt = s) (h11 : x11.toInt = t) (h16 : x16.toInt = ib_nn s) (hP : post 1 ()) (h20 : ((x10 - ((x3 &&& 1023) - (x3 &&& 1023) / 16 * 16)) - 1).toInt = w) (hw1 : -32 ≤ w) (hw2 : w < s) (hz : ib_Z p q r 5 s t w (ib_Oo 1 0 0) (l, ac, d, a1, a2, a3, a4, a5, a6, a7, a8, a9, a10, a11)) : wL_lawOf_697 post mc ms x3 x4 x10 x11 (ib_up p q) x16 z z kc ks l ac d a1 a2 a3 a4 a5 a6 a7 a8 a9 a10 a11 := by
  unfold wL_lawOf_697
  refine br_t rfl (ib_Ztight (i := 2) (k := 11) (A := fun u => u = s) (C := fun c => c = t) (c := x16) hz (by omega) (by omega) ib_o11 (by decide) hp (fun x => ?_) (ib_hcn hp hs1 hs2 ht1 ht2 h10 h11 h16 hP) (fun u hz => ?_))
  · rw [ib_T11]
    show (x p + x q = s ∧ t ≤ x r) ∧ x r = t ↔ x p + x q = s ∧ x r = t
    omega
  obtain ⟨l, ac, d, a1, a2, a3, a4, a5, a6, a7, a8, a9, a10, a11⟩ := u
  refine br_t rfl ⟨by decide, nm_e (ib_Zlimit (n := 5) hz (by omega) (ib_fU hp).1 (fun x => (ib_fU hp).2 x) h20 (by omega) (by omega) rfl (fun u hz => ?_))⟩
  obtain ⟨l, ac, d, a1, a2, a3, a4, a5, a6, a7, a8, a9, a10, a11⟩ := u
  have hF : ∀ x, ib_T p q r s t w (nI 43) x ↔ False := fun x => ib_T43.trans ⟨fun h => by omega, False.elim⟩
  refine br_t rfl (ib_Zpoints (k := 43) (A := fun _ => False) (C := fun _ => True) (c := 0) hz (by omega) ib_o43 (by decide) hp (fun x => (hF x).trans ⟨False.elim, fun h => h.1⟩) ib_hc0 (fun u hz => ?_))
  obtain ⟨l, ac, d, a1, a2, a3, a4, a5, a6, a7, a8, a9, a10, a11⟩ := u
  have z16 : (-16 : Int32).toInt = -16 := by decide
  have hf : ∀ x : Nat → Int, ib_U x → (-8 ≤ x p ∧ x p ≤ 8) ∧ (-8 ≤ x q ∧ x q ≤ 8) ∧ (-8 ≤ x r ∧ x r ≤ 8) := fun x => ib_Up hp
  by_cases g : -16 ≤ w
  · refine br_t rfl (ib_Zcore (ev := 43) (K := 2) (k0 := 34) hz (by omega) ib_o43 (by decide) (fun k hk _ => hk) (fun x _ h => (hF x).mp h) (fun k hk h1 h2 => ?_) (by decide) (by decide +kernel) (by decide) (fun x _ h => ?_) (by decide) (fun u hz => ?_))
    · rcases ib_sub43 k hk h1 h2 with rfl | rfl | rfl | rfl | rfl
      · obtain ⟨x, x1, x2, x3, x4⟩ := ib_at hp (a := 0) (b := 0) (c := 0) (by omega) (by omega) (by omega) (by omega) (by omega) (by omega)
        exact ⟨x, x1, ib_T0.mpr trivial⟩
      · obtain ⟨x, x1, x2, x3, x4⟩ := ib_at hp (a := -8) (b := -8) (c := 0) (by omega) (by omega) (by omega) (by omega) (by omega) (by omega)
        exact ⟨x, x1, (ib_Tk (by omega)).mpr (by omega)⟩
      · obtain ⟨x, x1, x2, x3, x4⟩ := ib_at hp (a := 8) (b := 8) (c := 0) (by omega) (by omega) (by omega) (by omega) (by omega) (by omega)
        exact ⟨x, x1, (ib_Tk (by omega)).mpr (by omega)⟩
      · obtain ⟨x, x1, x2, x3, x4⟩ := ib_at hp (a := 0) (b := 0) (c := t) (by omega) (by omega) (by omega) (by omega) (by omega) (by omega)
        exact ⟨x, x1, (ib_Tk (by omega)).mpr (by omega)⟩
      · obtain ⟨x, x1, x2, x3, x4⟩ := ib_at hp (a := -8) (b := -8) (c := 0) (by omega) (by omega) (by omega) (by omega) (by omega) (by omega)
        exact ⟨x, x1, (ib_Tk (by omega)).mpr (by omega)⟩
    · have := (ib_Tk (by omega)).mp h
      omega
    · obtain ⟨l, ac, d, a1, a2, a3, a4, a5, a6, a7, a8, a9, a10, a11⟩ := u
      exact br_t (ib_le.mpr (by rw [h20, z16]; exact g)) (ib_c771 hp hs1 hs2 ht1 ht2 h10 h11 h16 hP h20 hz)
  · refine br_t rfl (ib_Zcore (ev := 43) (K := 1) (k0 := 32) hz (by omega) ib_o43 (by decide) (fun k hk _ => hk) (fun x _ h => (hF x).mp h) (fun k hk h1 h2 => ?_) (by decide) (by decide +kernel) (by decide) (fun x hx h => ?_) (by decide) (fun u hz => ?_))
    · have e := ib_pc1 k hk h2
      subst e
      obtain ⟨x, x1, x2, x3, x4⟩ := ib_at hp (a := 0) (b := 0) (c := 0) (by omega) (by omega) (by omega) (by omega) (by omega) (by omega)
      exact ⟨x, x1, ib_T0.mpr trivial⟩
    · have h1 := (ib_Tk (by omega)).mp h
      have h2 := hf x hx
      omega
    · obtain ⟨l, ac, d, a1, a2, a3, a4, a5, a6, a7, a8, a9, a10, a11⟩ := u
      exact br_f (fun k => g (by have := ib_le.mp k; rw [h20, z16] at this; exact this)) (ib_c771 hp hs1 hs2 ht1 ht2 h10 h11 h16 hP h20 hz)
theorem ib_c646 (hp : ib_pm p q r) (hs1 : -16 ≤ s) (hs2 : s ≤ 16) (ht1 : -8 ≤ t) (ht2 : t ≤ 8) (h10 : x10.toInt = s) (h11 : x11.toInt = t) (h16 : x16.toInt = ib_nn s) (hP : post 1 ()) (h20 : ((x10 - ((x3 &&& 1023) - (x3 &&& 1023) / 16 * 16)) - 1).toInt = w) (hw1 : -32 ≤ w) (hw2 : w < s) (hz : ib_Z p q r 5 s t w (ib_Oo 1 0 1) (l, ac, d, a1, a2, a3, a4, a5, a6, a7, a8, a9, a10, a11)) : wL_lawOf_646 post mc ms x3 x4 x10 x11 (ib_up p q) x16 z z kc ks l ac d a1 a2 a3 a4 a5 a6 a7 a8 a9 a10 a11 := by
  have z8 : (8 : Int32).toInt = 8 := by decide
  unfold wL_lawOf_646
  refine br_t rfl (ib_Zturn (i := 4) (b' := 0) (O' := ib_Oo 1 0 0) hz (by omega) (by omega) (by decide +kernel) rfl rfl (fun j hj => ?_) (fun u hz => ?_))
  · unfold ib_Oo
    rw [if_neg hj, if_neg hj]
  obtain ⟨l, ac, d, a1, a2, a3, a4, a5, a6, a7, a8, a9, a10, a11⟩ := u
  refine br_t rfl (ib_Zpoints (k := 11) (A := fun u => u = s) (C := fun c => t ≤ c) (c := x16 * (9 - x11)) hz (by omega) ib_o11 (by decide) hp (fun x => ib_T11.trans (by first | omega | (dsimp only; omega))) (ib_hc9 hp hs1 hs2 ht1 ht2 h10 h11 h16 hP) (fun u hz => ?_))
  obtain ⟨l, ac, d, a1, a2, a3, a4, a5, a6, a7, a8, a9, a10, a11⟩ := u
  refine br_t rfl (ib_Ztight (i := 4) (k := 11) (A := fun u => u = s) (C := fun c => c = t + 1) (c := if t < 8 then x16 else 0) hz (by omega) (by omega) ib_o11 (by decide) hp (fun x => ?_) (ib_hct hp hs1 hs2 ht1 ht2 h10 h11 h16 hP) (fun u hz => ?_))
  · rw [ib_T11]
    show (x p + x q = s ∧ t ≤ x r) ∧ -(x r) = -t - 1 ↔ x p + x q = s ∧ x r = t + 1
    omega
  obtain ⟨l, ac, d, a1, a2, a3, a4, a5, a6, a7, a8, a9, a10, a11⟩ := u
  by_cases g : t < 8
  · rw [if_pos g]
    exact br_f (fun k => by have := ib_le.mp k; omega) (ib_c697 hp hs1 hs2 ht1 ht2 h10 h11 h16 hP h20 hw1 hw2 hz)
  · rw [if_neg g]
    exact br_t (ib_le.mpr (by omega)) (ib_c697 hp hs1 hs2 ht1 ht2 h10 h11 h16 hP h20 hw1 hw2 hz)
theorem ib_c566 (hp : ib_pm p q r) (hs1 : -16 ≤ s) (hs2 : s ≤ 16) (ht1 : -8 ≤ t) (ht2 : t ≤ 8) (h10 : x10.toInt = s) (h11 : x11.toInt = t) (h16 : x16.toInt = ib_nn s) (hP : post 1 ()) (h20 : ((x10 - ((x3 &&& 1023) - (x3 &&& 1023) / 16 * 16)) - 1).toInt = w) (hw1 : -32 ≤ w) (hw2 : w < s) (hz : ib_Z p q r 5 s t w (ib_Oo 1 1 1) (l, ac, d, a1, a2, a3, a4, a5, a6, a7, a8, a9, a10, a11)) : wL_lawOf_566 post mc ms x3 x4 (nI r) x10 x11 (ib_up p q) x16 z z kc ks l ac d a1 a2 a3 a4 a5 a6 a7 a8 a9 a10 a11 := by
  have z8 : (8 : Int32).toInt = 8 := by decide
  have hb := ib_lob hs1 hs2
  unfold wL_lawOf_566
  refine br_t rfl (ib_Zfirst (k := 31) (v := 0) hz (by omega) ib_o31 (by decide) (by omega) (fun _ u hz => ?_) (fun x _ h => (ib_T31.mp h).elim))
  obtain ⟨l, ac, d, a1, a2, a3, a4, a5, a6, a7, a8, a9, a10, a11⟩ := u
  refine br_t rfl (ib_Zfollows (k := 31) hz (by omega) ib_o31 (by decide) (ib_fU hp).1 (fun _ u hz => ?_) (fun x _ h => (ib_T31.mp h).elim))
  obtain ⟨l, ac, d, a1, a2, a3, a4, a5, a6, a7, a8, a9, a10, a11⟩ := u
  refine br_f ib_10 (ib_Zturn (i := 2) (b' := 0) (O' := ib_Oo 1 0 1) hz (by omega) (by omega) (by decide +kernel) rfl rfl (fun j hj => ?_) (fun u hz => ?_))
  · unfold ib_Oo
    rw [if_neg hj, if_neg hj]
  obtain ⟨l, ac, d, a1, a2, a3, a4, a5, a6, a7, a8, a9, a10, a11⟩ := u
  refine br_t rfl (ib_Zpoints (k := 27) (A := fun u => u = s) (C := fun c => t + 1 ≤ c) (c := x16 * (8 - x11)) hz (by omega) ib_o27 (by decide) hp (fun x => ib_T27.trans (by first | omega | (dsimp only; omega))) (ib_hc8 hp hs1 hs2 ht1 ht2 h10 h11 h16 hP) (fun u hz => ?_))
  obtain ⟨l, ac, d, a1, a2, a3, a4, a5, a6, a7, a8, a9, a10, a11⟩ := u
  refine br_t rfl (ib_Zfirst (k := 27) (v := r) hz (by omega) ib_o27 (by decide) (ib_pm3 hp).2.2.1 (fun h u hz => ?_) (fun x hx h hl c u hc hz => ?_))
  · obtain ⟨l, ac, d, a1, a2, a3, a4, a5, a6, a7, a8, a9, a10, a11⟩ := u
    have g : ¬ t < 8 := fun g => by
      obtain ⟨x, x1, x2, x3, x4⟩ := ib_at hp (a := ib_lo s) (b := ib_hi s) (c := t + 1) (by omega) (by omega) (by omega) (by omega) (by omega) (by omega)
      exact h x x1 (ib_T27.mpr (by omega))
    exact br_t (ib_le.mpr (by omega)) (ib_c646 hp hs1 hs2 ht1 ht2 h10 h11 h16 hP h20 hw1 hw2 hz)
  · obtain ⟨l, ac, d, a1, a2, a3, a4, a5, a6, a7, a8, a9, a10, a11⟩ := u
    have h1 := ib_T27.mp h
    have h2 := ib_Up hp hx
    have g : t < 8 := by omega
    have e := ib_fst2 hp ht1 (by omega) hx h1 (fun y y1 y2 => hl y y1 (ib_T27.mpr y2))
    have ec : c = x11 + 1 := Int32.toInt_inj.mp (by rw [hc, e, ib_add (by rw [ib_z1]; omega) (by rw [ib_z1]; omega), h11, ib_z1])
    subst ec
    exact br_f (fun k => by have := ib_le.mp k; omega) (ib_c646 hp hs1 hs2 ht1 ht2 h10 h11 h16 hP h20 hw1 hw2 hz)
end
end
section
section
variable {p q r : Nat} {s t w : Int} {post : Int32 → St0 → Prop} {mc ms kc ks : Nat} {x3 x4 x10 x11 x16 x17 x18 x20 z : Int32} {l ac d : Int32} {a1 a2 a3 a4 a5 a6 a7 a8 a9 a10 a11 : Nat → Int32}
theorem ib_c411 (hp : ib_pm p q r) (hs1 : -16 ≤ s) (hs2 : s ≤ 16) (ht1 : -8 ≤ t) (ht2 : t ≤ 8) (h10 : x10.toInt = s) (h11 : x11.toInt = t) (h16 : x16.toInt = ib_nn s) (hP : post 1 ()) (h20 : ((x10 - ((x3 &&& 1023) - (x3 &&& 1023) / 16 * 16)) - 1).toInt = w) (hw1 : -32 ≤ w) (hw2 : w < s) (h17 : x17.toInt = ib_lo s) (h18 : x18.toInt = ib_hi s) (hz : ib_Z p q r 4 s t w (ib_Oo 1 1 1) (l, ac, d, a1, a2, a3, a4, a5, a6, a7, a8, a9, a10, a11)) :
    wL_lawOf_411 post mc ms x3 x4 (nI p) (nI q) (nI r) x10 x11 (ib_up p q) (ib_fi r) (ib_ba r) x16 x17 x18 z z kc ks l ac d a1 a2 a3 a4 a5 a6 a7 a8 a9 a10 a11 := by
  have hb := ib_lob hs1 hs2
  have z8 : (8 : Int32).toInt = 8 := by decide
  have z9 : (9 : Int32).toInt = 9 := by decide
  have z0 := ib_z0
  have z1 := ib_z1
  obtain ⟨q1, q2, q3, q4⟩ := ib_pm3 hp
  have e1 : (x10 - 1).toInt = s - 1 := by rw [ib_sub (by rw [z1]; omega) (by rw [z1]; omega), h10, z1]
  have e17 : x17 + 8 = nI (ib_lo s + 8).toNat := Int32.toInt_inj.mp (by rw [ib_add (by rw [z8]; omega) (by rw [z8]; omega), h17, z8, nI_toInt (by omega)]; omega)
  have e18 : x18 + 9 = nI ((ib_hi s + 8).toNat + 1) := Int32.toInt_inj.mp (by rw [ib_add (by rw [z9]; omega) (by rw [z9]; omega), h18, z9, nI_toInt (by omega)]; omega)
  have e11 : x11 + 8 = nI (t + 8).toNat := Int32.toInt_inj.mp (by rw [ib_add (by rw [z8]; omega) (by rw [z8]; omega), h11, z8, nI_toInt (by omega)]; omega)
  have em : (0 - x11).toInt = -t := by rw [ib_sub (by rw [z0]; omega) (by rw [z0]; omega), h11, z0]; omega
  have em1 : ((0 - x11) - 1).toInt = -t - 1 := by rw [ib_sub (by rw [em, z1]; omega) (by rw [em, z1]; omega), em, z1]
  unfold wL_lawOf_411
  refine br_t rfl (ib_Zfollows (k := 15) hz (by omega) ib_o15 (by decide) (ib_fU hp).1 (fun _ u hz => ?_) (fun x hx h hn => ?_))
  rotate_left
  · have := ib_T15.mp h
    rw [(ib_fU hp).2 x] at hn
    exfalso
    omega
  obtain ⟨l, ac, d, a1, a2, a3, a4, a5, a6, a7, a8, a9, a10, a11⟩ := u
  refine br_f ib_10 (ib_Zfollows (k := 15) hz (by omega) ib_o15 (by decide) (ib_fU hp).1 (fun h => ?_) (fun x hx h hn u hz => ?_))
  · obtain ⟨x, x1, x2, x3, x4⟩ := ib_at hp (a := ib_lo s) (b := ib_hi s) (c := t) (by omega) (by omega) (by omega) (by omega) (by omega) (by omega)
    have := h x x1 (ib_T15.mpr (by omega))
    rw [(ib_fU hp).2 x] at this
    exfalso
    omega
  obtain ⟨l, ac, d, a1, a2, a3, a4, a5, a6, a7, a8, a9, a10, a11⟩ := u
  refine br_t rfl (ib_Zfollows (k := 15) hz (by omega) ib_o15 (by decide) (ib_fF hp).1 (fun _ u hz => ?_) (fun x hx h hn => ?_))
  rotate_left
  · have := ib_T15.mp h
    rw [(ib_fF hp).2 x] at hn
    exfalso
    omega
  obtain ⟨l, ac, d, a1, a2, a3, a4, a5, a6, a7, a8, a9, a10, a11⟩ := u
  refine br_f ib_10 (nm_e ?_)
  rw [e17, e18, e11]
  have mk := ib_mk1 (ib_hi s + 8).toNat (by omega) (ib_lo s + 8).toNat (by omega)
  refine ib_Znumbers (k := 15) (v := p) hz (by omega) ib_o15 (by decide) q1 (fun j => decide ((ib_lo s + 8).toNat ≤ j ∧ j ≤ (ib_hi s + 8).toNat)) (fun j hj => ?_) (fun u hz => ?_)
  · rw [decide_eq_true_iff]
    refine Iff.trans ?_ (Iff.trans (ib_ex hp hs1 hs2 ht1 ht2 (a := (j : Int) - 8)).symm ⟨fun ⟨x, x1, x2, x3⟩ => ⟨x, x1, ib_T15.mpr x2, x3⟩, fun ⟨x, x1, x2, x3⟩ => ⟨x, x1, ib_T15.mp x2, x3⟩⟩)
    omega
  obtain ⟨l, ac, d, a1, a2, a3, a4, a5, a6, a7, a8, a9, a10, a11⟩ := u
  refine br_t mk (ib_Znumbers (k := 15) (v := q) hz (by omega) ib_o15 (by decide) q2 (fun j => decide ((ib_lo s + 8).toNat ≤ j ∧ j ≤ (ib_hi s + 8).toNat)) (fun j hj => ?_) (fun u hz => ?_))
  · rw [decide_eq_true_iff]
    refine Iff.trans ?_ (Iff.trans (ib_exq hp hs1 hs2 ht1 ht2 (a := (j : Int) - 8)).symm ⟨fun ⟨x, x1, x2, x3⟩ => ⟨x, x1, ib_T15.mpr x2, x3⟩, fun ⟨x, x1, x2, x3⟩ => ⟨x, x1, ib_T15.mp x2, x3⟩⟩)
    omega
  obtain ⟨l, ac, d, a1, a2, a3, a4, a5, a6, a7, a8, a9, a10, a11⟩ := u
  refine br_t mk (ib_Znumbers (k := 15) (v := r) hz (by omega) ib_o15 (by decide) q3 (fun j => decide (j = (t + 8).toNat)) (fun j hj => ?_) (fun u hz => ?_))
  · rw [decide_eq_true_iff]
    refine Iff.trans ?_ (Iff.trans (ib_exr hp hs1 hs2 ht1 ht2 (a := (j : Int) - 8)).symm ⟨fun ⟨x, x1, x2, x3⟩ => ⟨x, x1, ib_T15.mpr x2, x3⟩, fun ⟨x, x1, x2, x3⟩ => ⟨x, x1, ib_T15.mp x2, x3⟩⟩)
    omega
  obtain ⟨l, ac, d, a1, a2, a3, a4, a5, a6, a7, a8, a9, a10, a11⟩ := u
  refine br_t (ib_mk2 (t + 8).toNat (by omega)) (ib_Znumbers3 hz (fun u hz => ?_))
  obtain ⟨l, ac, d, a1, a2, a3, a4, a5, a6, a7, a8, a9, a10, a11⟩ := u
  refine br_t rfl (ib_Zlimit (n := 4) hz (by omega) (ib_fB hp).1 (fun x => (ib_fB hp).2 x) em1 (by omega) (by omega) rfl (fun u hz => ?_))
  obtain ⟨l, ac, d, a1, a2, a3, a4, a5, a6, a7, a8, a9, a10, a11⟩ := u
  refine br_t rfl (ib_Zpoints (k := 31) (A := fun _ => False) (C := fun _ => True) (c := 0) hz (by omega) ib_o31 (by decide) hp (fun x => ib_T31.trans ⟨False.elim, fun h => h.1⟩) ib_hc0 (fun u hz => ?_))
  obtain ⟨l, ac, d, a1, a2, a3, a4, a5, a6, a7, a8, a9, a10, a11⟩ := u
  by_cases g : t = 8
  · refine br_t rfl (ib_Zcore (ev := 31) (K := 1) (k0 := 16) hz (by omega) ib_o31 (by decide) ib_sub31.1 (fun x _ h => ib_T31.mp h) (fun k hk h1 h2 => ?_) (by decide) (by decide +kernel) (by decide) (fun x hx h => ?_) (by decide) (fun u hz => ?_))
    · have e := ib_pc1 k hk h2
      subst e
      obtain ⟨x, x1, x2, x3, x4⟩ := ib_at hp (a := 0) (b := 0) (c := 0) (by omega) (by omega) (by omega) (by omega) (by omega) (by omega)
      exact ⟨x, x1, ib_T0.mpr trivial⟩
    · have h1 := (ib_Tk (by omega)).mp h
      have h2 := ib_Up hp hx
      omega
    · obtain ⟨l, ac, d, a1, a2, a3, a4, a5, a6, a7, a8, a9, a10, a11⟩ := u
      exact br_t (Int32.toInt_inj.mp (by rw [h11, z8]; exact g)) (ib_c566 hp hs1 hs2 ht1 ht2 h10 h11 h16 hP h20 hw1 hw2 hz)
  · refine br_t rfl (ib_Zcore (ev := 31) (K := 2) (k0 := 20) hz (by omega) ib_o31 (by decide) ib_sub31.1 (fun x _ h => ib_T31.mp h) (fun k hk h1 h2 => ?_) (by decide) (by decide +kernel) (by decide) (fun x hx h => ?_) (by decide) (fun u hz => ?_))
    · rcases ib_sub31.2 k hk h1 h2 with rfl | rfl | rfl | rfl | rfl | rfl
      · obtain ⟨x, x1, x2, x3, x4⟩ := ib_at hp (a := 0) (b := 0) (c := 0) (by omega) (by omega) (by omega) (by omega) (by omega) (by omega)
        exact ⟨x, x1, ib_T0.mpr trivial⟩
      · obtain ⟨x, x1, x2, x3, x4⟩ := ib_at hp (a := -8) (b := -8) (c := 0) (by omega) (by omega) (by omega) (by omega) (by omega) (by omega)
        exact ⟨x, x1, (ib_Tk (by omega)).mpr (by omega)⟩
      · obtain ⟨x, x1, x2, x3, x4⟩ := ib_at hp (a := 8) (b := 8) (c := 0) (by omega) (by omega) (by omega) (by omega) (by omega) (by omega)
        exact ⟨x, x1, (ib_Tk (by omega)).mpr (by omega)⟩
      · obtain ⟨x, x1, x2, x3, x4⟩ := ib_at hp (a := 0) (b := 0) (c := t) (by omega) (by omega) (by omega) (by omega) (by omega) (by omega)
        exact ⟨x, x1, (ib_Tk (by omega)).mpr (by omega)⟩
      · obtain ⟨x, x1, x2, x3, x4⟩ := ib_at hp (a := 0) (b := 0) (c := t) (by omega) (by omega) (by omega) (by omega) (by omega) (by omega)
        exact ⟨x, x1, (ib_Tk (by omega)).mpr (by omega)⟩
      · obtain ⟨x, x1, x2, x3, x4⟩ := ib_at hp (a := 0) (b := 0) (c := t + 1) (by omega) (by omega) (by omega) (by omega) (by omega) (by omega)
        exact ⟨x, x1, (ib_Tk (by omega)).mpr (by omega)⟩
    · have h1 := (ib_Tk (by omega)).mp h
      omega
    · obtain ⟨l, ac, d, a1, a2, a3, a4, a5, a6, a7, a8, a9, a10, a11⟩ := u
      exact br_f (fun k => g (by rw [← h11, k, z8])) (ib_c566 hp hs1 hs2 ht1 ht2 h10 h11 h16 hP h20 hw1 hw2 hz)
theorem ib_c315 (hp : ib_pm p q r) (hs1 : -16 ≤ s) (hs2 : s ≤ 16) (ht1 : -8 ≤ t) (ht2 : t ≤ 8) (h10 : x10.toInt = s) (h11 : x11.toInt = t) (h16 : x16.toInt = ib_nn s) (hP : post 1 ()) (h20 : ((x10 - ((x3 &&& 1023) - (x3 &&& 1023) / 16 * 16)) - 1).toInt = w) (hw1 : -32 ≤ w) (hw2 : w < s) (h17 : x17.toInt = ib_lo s) (h18 : x18.toInt = ib_hi s) (hz : ib_Z p q r 4 s t w (ib_Oo 1 1 1) (l, ac, d, a1, a2, a3, a4, a5, a6, a7, a8, a9, a10, a11)) :
    wL_lawOf_315 post mc ms x3 x4 (nI p) (nI q) (nI r) 1365 x10 x11 (ib_up p q) (ib_fi r) (ib_ba r) x16 x17 x18 kc ks l ac d a1 a2 a3 a4 a5 a6 a7 a8 a9 a10 a11 := by
  have hb := ib_lob hs1 hs2
  have z2 : (2 : Int32).toInt = 2 := by decide
  have z16 : (16 : Int32).toInt = 16 := by decide
  have e2 : (2 * x18).toInt = 2 * ib_hi s := by rw [ib_mul (by rw [z2]; omega) (by rw [z2]; omega), h18, z2]
  have e3 : (2 * x18 - x10).toInt = 2 * ib_hi s - s := by rw [ib_sub (by rw [e2]; omega) (by rw [e2]; omega), e2, h10]
  obtain ⟨y, y1, y2, y3, y4⟩ := ib_at hp (a := ib_hi s) (b := ib_lo s) (c := t) (by omega) (by omega) (by omega) (by omega) (by omega) (by omega)
  have yT : ib_T p q r s t w (nI 15) y := ib_T15.mpr (by omega)
  unfold wL_lawOf_315
  refine ib_Zgreatest (f := ib_tw p) (k := 15) hz (by omega) ib_o15 (by decide) (ib_fT hp).1 (fun h => absurd yT (h y y1)) (fun c x hx h hc hl u hz => ?_)
  obtain ⟨l, ac, d, a1, a2, a3, a4, a5, a6, a7, a8, a9, a10, a11⟩ := u
  have ec : c = 2 * x18 := by
    have h1 := ib_T15.mp h
    have h2 := ib_Up hp hx
    have h3 := ib_lom h2.1.1 h2.1.2 h2.2.1.1 h2.2.1.2 h1.1
    have h4 := hl y y1 yT
    rw [(ib_fT hp).2] at hc h4
    exact Int32.toInt_inj.mp (by rw [e2]; omega)
  refine br_t ec (ib_Zgreatest (f := ib_df p q) (k := 15) hz (by omega) ib_o15 (by decide) (ib_fM hp).1 (fun h => absurd yT (h y y1)) (fun c x hx h hc hl u hz => ?_))
  obtain ⟨l, ac, d, a1, a2, a3, a4, a5, a6, a7, a8, a9, a10, a11⟩ := u
  have ec : c = 2 * x18 - x10 := by
    have h1 := ib_T15.mp h
    have h2 := ib_Up hp hx
    have h3 := ib_lom h2.1.1 h2.1.2 h2.2.1.1 h2.2.1.2 h1.1
    have h4 := hl y y1 yT
    rw [(ib_fM hp).2] at hc h4
    exact Int32.toInt_inj.mp (by rw [e3]; omega)
  refine br_t ec (ib_Ztight (i := 0) (k := 15) (A := fun u => u = s) (C := fun c => c = t) (c := x16) hz (by omega) (by omega) ib_o15 (by decide) hp (fun x => ?_) (ib_hcn hp hs1 hs2 ht1 ht2 h10 h11 h16 hP) (fun u hz => ?_))
  · rw [ib_T15]
    show (x p + x q = s ∧ x r = t) ∧ x p + x q = s ↔ x p + x q = s ∧ x r = t
    omega
  obtain ⟨l, ac, d, a1, a2, a3, a4, a5, a6, a7, a8, a9, a10, a11⟩ := u
  refine br_t rfl (ib_Ztight (i := 3) (k := 15) (A := fun u => u = s) (C := fun c => c = t) (c := x16) hz (by omega) (by omega) ib_o15 (by decide) hp (fun x => ?_) (ib_hcn hp hs1 hs2 ht1 ht2 h10 h11 h16 hP) (fun u hz => ?_))
  · rw [ib_T15]
    show (x p + x q = s ∧ x r = t) ∧ -(x r) = -t ↔ x p + x q = s ∧ x r = t
    omega
  obtain ⟨l, ac, d, a1, a2, a3, a4, a5, a6, a7, a8, a9, a10, a11⟩ := u
  refine br_t rfl (ib_Zidle (i := 0) (k := 15) (k' := 14) (A := fun u => u = s) (C := fun c => c = t) (A' := fun u => s ≤ u) (C' := fun c => c = t) hz (by omega) (by omega) ib_o15 (by decide) hp (by decide +kernel) (by decide +kernel) (by decide)
    (fun x => ib_T15.trans (by first | omega | (dsimp only; omega))) (fun x => ib_T14.trans (by first | omega | (dsimp only; omega))) (fun h u hz => ?_) (fun h u hz => ?_))
  · obtain ⟨l, ac, d, a1, a2, a3, a4, a5, a6, a7, a8, a9, a10, a11⟩ := u
    rw [ib_sg1 ht1 ht2, Nat.mul_one, Nat.mul_one] at h
    have g := (ib_pr2 hs1 hs2).mp h
    exact br_t (Int32.toInt_inj.mp (by rw [h10, z16]; exact g)) (ib_c411 hp hs1 hs2 ht1 ht2 h10 h11 h16 hP h20 hw1 hw2 h17 h18 hz)
  · obtain ⟨l, ac, d, a1, a2, a3, a4, a5, a6, a7, a8, a9, a10, a11⟩ := u
    rw [ib_sg1 ht1 ht2, Nat.mul_one, Nat.mul_one] at h
    exact br_f (fun k => h ((ib_pr2 hs1 hs2).mpr (by rw [← h10, k, z16]))) (ib_c411 hp hs1 hs2 ht1 ht2 h10 h11 h16 hP h20 hw1 hw2 h17 h18 hz)
theorem ib_c287 (hp : ib_pm p q r) (hs1 : -16 ≤ s) (hs2 : s ≤ 16) (ht1 : -8 ≤ t) (ht2 : t ≤ 8) (h10 : x10.toInt = s) (h11 : x11.toInt = t) (h16 : x16.toInt = ib_nn s) (hP : post 1 ()) (h20 : ((x10 - ((x3 &&& 1023) - (x3 &&& 1023) / 16 * 16)) - 1).toInt = w) (hw1 : -32 ≤ w) (hw2 : w < s) (h17 : x17.toInt = ib_lo s) {v : Nat} (hv : v = if q ≤ p then p else q) (hz : ib_Z p q r 4 s t w (ib_Oo 1 1 1) (l, ac, d, a1, a2, a3, a4, a5, a6, a7, a8, a9, a10, a11)) :
    wL_lawOf_287 post mc ms x3 x4 (nI p) (nI q) (nI r) 1365 x10 x11 (ib_up p q) (ib_fi r) (ib_ba r) x16 x17 (nI v) kc ks l ac d a1 a2 a3 a4 a5 a6 a7 a8 a9 a10 a11 := by
  have hb := ib_lob hs1 hs2
  have z8 : (8 : Int32).toInt = 8 := by decide
  obtain ⟨q1, q2, q3, q4⟩ := ib_pm3 hp
  obtain ⟨y, y1, y2, y3, y4⟩ := ib_at hp (a := ib_hi s) (b := ib_lo s) (c := t) (by omega) (by omega) (by omega) (by omega) (by omega) (by omega)
  have yT : ib_T p q r s t w (nI 15) y := ib_T15.mpr (by omega)
  unfold wL_lawOf_287
  refine ib_Zfirst (k := 15) (v := v) hz (by omega) ib_o15 (by decide) (by rw [hv]; split <;> omega) (fun h => absurd yT (h y y1)) (fun x hx h hl c u hc hz => ?_)
  obtain ⟨l, ac, d, a1, a2, a3, a4, a5, a6, a7, a8, a9, a10, a11⟩ := u
  have f := (ib_fst hp hs1 hs2 ht1 ht2 hx (ib_T15.mp h) (fun y y1 y2 => hl y y1 (ib_T15.mpr y2))).2
  rw [← hv] at f
  have ec : c = x10 - x17 := Int32.toInt_inj.mp (by rw [hc, f, ib_sub (by omega) (by omega), h10, h17])
  refine br_t ec (br_c (fun g => ib_c315 hp hs1 hs2 ht1 ht2 h10 h11 h16 hP h20 hw1 hw2 h17 ?_ hz) (fun g => ib_c315 hp hs1 hs2 ht1 ht2 h10 h11 h16 hP h20 hw1 hw2 h17 ?_ hz))
  · have g' := ib_le.mp g
    rw [h10, ib_z0] at g'
    rw [z8]
    unfold ib_hi
    rw [if_neg (by omega)]
  · have g' : ¬ 0 ≤ s := fun k => g (ib_le.mpr (by rw [h10, ib_z0]; exact k))
    rw [ib_add (by rw [z8]; omega) (by rw [z8]; omega), h10, z8]
    unfold ib_hi
    rw [if_pos (by omega)]
theorem ib_c263 (hp : ib_pm p q r) (hs1 : -16 ≤ s) (hs2 : s ≤ 16) (ht1 : -8 ≤ t) (ht2 : t ≤ 8) (h10 : x10.toInt = s) (h11 : x11.toInt = t) (h16 : x16.toInt = ib_nn s) (hP : post 1 ()) (h20 : ((x10 - ((x3 &&& 1023) - (x3 &&& 1023) / 16 * 16)) - 1).toInt = w) (hw1 : -32 ≤ w) (hw2 : w < s) (h17 : x17.toInt = ib_lo s) {v : Nat} (hv : v = if q ≤ p then q else p) (hz : ib_Z p q r 4 s t w (ib_Oo 1 1 1) (l, ac, d, a1, a2, a3, a4, a5, a6, a7, a8, a9, a10, a11)) :
    wL_lawOf_263 post mc ms x3 x4 (nI p) (nI q) (nI r) 1365 x10 x11 (ib_up p q) (ib_fi r) (ib_ba r) x16 x17 (nI v) kc ks l ac d a1 a2 a3 a4 a5 a6 a7 a8 a9 a10 a11 := by
  have hb := ib_lob hs1 hs2
  obtain ⟨q1, q2, q3, q4⟩ := ib_pm3 hp
  obtain ⟨y, y1, y2, y3, y4⟩ := ib_at hp (a := ib_hi s) (b := ib_lo s) (c := t) (by omega) (by omega) (by omega) (by omega) (by omega) (by omega)
  have yT : ib_T p q r s t w (nI 15) y := ib_T15.mpr (by omega)
  unfold wL_lawOf_263
  refine ib_Zfirst (k := 15) (v := v) hz (by omega) ib_o15 (by decide) (by rw [hv]; split <;> omega) (fun h => absurd yT (h y y1)) (fun x hx h hl c u hc hz => ?_)
  obtain ⟨l, ac, d, a1, a2, a3, a4, a5, a6, a7, a8, a9, a10, a11⟩ := u
  have f := (ib_fst hp hs1 hs2 ht1 ht2 hx (ib_T15.mp h) (fun y y1 y2 => hl y y1 (ib_T15.mpr y2))).1
  rw [← hv] at f
  have ec : c = x17 := Int32.toInt_inj.mp (by rw [hc, f, h17])
  exact br_t ec (pk_le q p (fun g => ib_c287 hp hs1 hs2 ht1 ht2 h10 h11 h16 hP h20 hw1 hw2 h17 (if_pos g).symm hz) (fun g => ib_c287 hp hs1 hs2 ht1 ht2 h10 h11 h16 hP h20 hw1 hw2 h17 (if_neg (by omega)).symm hz))
theorem ib_c223 (hp : ib_pm p q r) (hs1 : -16 ≤ s) (hs2 : s ≤ 16) (ht1 : -8 ≤ t) (ht2 : t ≤ 8) (h10 : x10.toInt = s) (h11 : x11.toInt = t) (h16 : x16.toInt = ib_nn s) (hP : post 1 ()) (h20 : ((x10 - ((x3 &&& 1023) - (x3 &&& 1023) / 16 * 16)) - 1).toInt = w) (hw1 : -32 ≤ w) (hw2 : w < s) (h17 : x17.toInt = ib_lo s) (hz : ib_Z p q r 4 s t w (ib_Oo 1 1 1) (l, ac, d, a1, a2, a3, a4, a5, a6, a7, a8, a9, a10, a11)) :
    wL_lawOf_223 post mc ms x3 x4 (nI p) (nI q) (nI r) 1365 x10 x11 (ib_up p q) (ib_fi r) (ib_ba r) x16 x17 kc ks l ac d a1 a2 a3 a4 a5 a6 a7 a8 a9 a10 a11 := by
  have hb := ib_lob hs1 hs2
  obtain ⟨q1, q2, q3, q4⟩ := ib_pm3 hp
  obtain ⟨y, y1, y2, y3, y4⟩ := ib_at hp (a := ib_hi s) (b := ib_lo s) (c := t) (by omega) (by omega) (by omega) (by omega) (by omega) (by omega)
  have yT : ib_T p q r s t w (nI 15) y := ib_T15.mpr (by omega)
  unfold wL_lawOf_223
  refine ib_Zpoints (k := 15) (A := fun u => u = s) (C := fun c => c = t) (c := x16) hz (by omega) ib_o15 (by decide) hp (fun x => ib_T15.trans (by first | omega | (dsimp only; omega))) (ib_hcn hp hs1 hs2 ht1 ht2 h10 h11 h16 hP) (fun u hz => ?_)
  obtain ⟨l, ac, d, a1, a2, a3, a4, a5, a6, a7, a8, a9, a10, a11⟩ := u
  refine br_t rfl (ib_Zfirst (k := 15) (v := r) hz (by omega) ib_o15 (by decide) q3 (fun h => absurd yT (h y y1)) (fun x hx h hl c u hc hz => ?_))
  obtain ⟨l, ac, d, a1, a2, a3, a4, a5, a6, a7, a8, a9, a10, a11⟩ := u
  have ec : c = x11 := Int32.toInt_inj.mp (by rw [hc, h11]; exact (ib_T15.mp h).2)
  exact br_t ec (pk_le q p (fun g => ib_c263 hp hs1 hs2 ht1 ht2 h10 h11 h16 hP h20 hw1 hw2 h17 (if_pos g).symm hz) (fun g => ib_c263 hp hs1 hs2 ht1 ht2 h10 h11 h16 hP h20 hw1 hw2 h17 (if_neg (by omega)).symm hz))
theorem ib_c206 (hp : ib_pm p q r) (hs1 : -16 ≤ s) (hs2 : s ≤ 16) (ht1 : -8 ≤ t) (ht2 : t ≤ 8) (h10 : x10.toInt = s) (h11 : x11.toInt = t) (h16 : x16.toInt = ib_nn s) (hP : post 1 ()) (h20 : ((x10 - ((x3 &&& 1023) - (x3 &&& 1023) / 16 * 16)) - 1).toInt = w) (hw1 : -32 ≤ w) (hw2 : w < s) (hz : ib_Z p q r 4 s t w (ib_Oo 1 1 1) (l, ac, d, a1, a2, a3, a4, a5, a6, a7, a8, a9, a10, a11)) :
    wL_lawOf_206 post mc ms x3 x4 (nI p) (nI q) (nI r) 1365 x10 x11 (ib_up p q) (ib_fi r) (ib_ba r) x16 kc ks l ac d a1 a2 a3 a4 a5 a6 a7 a8 a9 a10 a11 := by
  have z8 : (8 : Int32).toInt = 8 := by decide
  unfold wL_lawOf_206
  refine br_c (fun g => ib_c223 hp hs1 hs2 ht1 ht2 h10 h11 h16 hP h20 hw1 hw2 ?_ hz) (fun g => ib_c223 hp hs1 hs2 ht1 ht2 h10 h11 h16 hP h20 hw1 hw2 ?_ hz)
  · have g' := ib_le.mp g
    rw [h10, ib_z0] at g'
    rw [ib_sub (by rw [z8]; omega) (by rw [z8]; omega), h10, z8]
    unfold ib_lo
    rw [if_neg (by omega)]
  · have g' : ¬ 0 ≤ s := fun k => g (ib_le.mpr (by rw [h10, ib_z0]; exact k))
    unfold ib_lo
    rw [if_pos (by omega)]
    decide
end
/-- a remainder of low bits -/
theorem ib_rem (x : Int32) {m : Int32} (k : Nat) (hm : m.toBitVec.toNat = 2 ^ k - 1) (hk : k ≤ 30) (n : Nat) (hn : 0 < n) (hn2 : n < 2 ^ 31) : ∃ j : Nat, j < n ∧ (x &&& m) - (x &&& m) / nI n * nI n = nI j := by
  obtain ⟨j, hj, e⟩ := pk_andE x k hm
  have h30 : 2 ^ k ≤ 2 ^ 30 := Nat.pow_le_pow_right (by omega) hk
  refine ⟨j % n, Nat.mod_lt _ hn, ?_⟩
  rw [e]
  exact pk_rem (by omega) hn hn2
theorem ib_lawOf {post : Int32 → St0 → Prop} (hP : post 1 ()) (x0 x1 x2 x3 x4 : Int32) : wpL_lawOf post 12 262 () x0 x1 x2 x3 x4 := by
  have z0 := ib_z0
  have z1 := ib_z1
  have z16 : (16 : Int32).toInt = 16 := by decide
  have z17 : (17 : Int32).toInt = 17 := by decide
  have z8 : (8 : Int32).toInt = 8 := by decide
  obtain ⟨p, hp3, ep⟩ := ib_rem x0 (m := 255) 8 (by decide) (by omega) 3 (by omega) (by omega)
  obtain ⟨b, hb2, eb⟩ := pk_andE (x0 >>> ((8 : Int32) &&& 31)) (m := 1) 1 (by decide)
  obtain ⟨i, hi, ei⟩ := ib_rem x1 (m := 1023) 10 (by decide) (by omega) 33 (by omega) (by omega)
  obtain ⟨j, hj, ej⟩ := ib_rem x2 (m := 1023) 10 (by decide) (by omega) 17 (by omega) (by omega)
  obtain ⟨k, hk, ek⟩ := ib_rem x3 (m := 1023) 10 (by decide) (by omega) 16 (by omega) (by omega)
  have eq : ((nI p + 1) + ((x0 >>> ((8 : Int32) &&& 31)) &&& 1)) - ((nI p + 1) + ((x0 >>> ((8 : Int32) &&& 31)) &&& 1)) / 3 * 3 = nI ((p + 1 + b) % 3) := by
    rw [eb, nI_1, nI_add]
    exact pk_rem (d := 3) (by omega) (by omega) (by omega)
  have hpm : ib_pm p ((p + 1 + b) % 3) (3 - p - (p + 1 + b) % 3) := by
    have h1 : p = 0 ∨ p = 1 ∨ p = 2 := by omega
    have h2 : b = 0 ∨ b = 1 := by omega
    unfold ib_pm
    rcases h1 with rfl | rfl | rfl <;> rcases h2 with rfl | rfl <;> decide
  generalize hq : (p + 1 + b) % 3 = q at eq hpm
  have hq3 : q < 3 := by omega
  have hpq : p + q ≤ 3 := by
    have := ib_pm3 hpm
    omega
  have er : (3 - nI p) - nI q = nI (3 - p - q) := by
    rw [show (3 : Int32) - nI p = nI (3 - p) from pk_sub (a := 3) (by omega), pk_sub (by omega)]
  generalize 3 - p - q = r at hpm er
  have es : (nI i - 16).toInt = (i : Int) - 16 := by rw [ib_sub (by rw [nI_toInt (by omega), z16]; omega) (by rw [nI_toInt (by omega), z16]; omega), nI_toInt (by omega), z16]
  have et : (nI j - 8).toInt = (j : Int) - 8 := by rw [ib_sub (by rw [nI_toInt (by omega), z8]; omega) (by rw [nI_toInt (by omega), z8]; omega), nI_toInt (by omega), z8]
  have ens : (0 - (nI i - 16)).toInt = -((i : Int) - 16) := by rw [ib_sub (by rw [es, z0]; omega) (by rw [es, z0]; omega), es, z0]; omega
  have ent : (0 - (nI j - 8)).toInt = -((j : Int) - 8) := by rw [ib_sub (by rw [et, z0]; omega) (by rw [et, z0]; omega), et, z0]; omega
  have ek' : (x3 &&& 1023) - (x3 &&& 1023) / 16 * 16 = nI k := ek
  have ew1 : (nI i - 16 - nI k).toInt = (i : Int) - 16 - k := by rw [ib_sub (by rw [es, nI_toInt (by omega)]; omega) (by rw [es, nI_toInt (by omega)]; omega), es, nI_toInt (by omega)]
  have ew : ((nI i - 16) - ((x3 &&& 1023) - (x3 &&& 1023) / 16 * 16) - 1).toInt = (i : Int) - 16 - k - 1 := by
    rw [ek', ib_sub (by rw [ew1, z1]; omega) (by rw [ew1, z1]; omega), ew1, z1]
  unfold wpL_lawOf
  refine ⟨by omega, by omega, 11, 248, by omega, by omega, ib_init (by omega) (by omega) (fun b1 b2 g1 g2 => ?_)⟩
  refine ⟨by decide, nm_r ep ⟨by decide, nm_r eq (nm_r er ⟨by decide, nm_r (congrArg (· - 16) ei) ⟨by decide, nm_r (congrArg (· - 8) ej) ?_⟩⟩)⟩⟩
  refine nm_r (e' := ib_up p q) rfl (nm_r (e' := ib_dn p q) rfl (nm_r (e' := ib_fi r) rfl (nm_r (e' := ib_ba r) rfl ?_)))
  have hz : ib_Z p q r 0 ((i : Int) - 16) ((j : Int) - 8) ((i : Int) - 16 - k - 1) (ib_Oo 1 1 1) (0, 0, 0, b1, b2, fun _ => 0, fun _ => 0, fun _ => 0, fun _ => 0, fun _ => 0, fun _ => 0, fun _ => 0, fun _ => 0, fun _ => 0) :=
    ⟨rfl, g1, g2, ⟨fun _ _ => by rw [z0]; omega, fun _ _ => by rw [z0]; omega⟩, fun i hi => absurd hi (by omega), fun i hi => absurd hi (by omega), fun i hi => absurd hi (by omega)⟩
  refine ib_Zlimit (n := 0) hz (by omega) (ib_fU hpm).1 (fun x => (ib_fU hpm).2 x) es (by omega) (by omega) rfl (fun u hz => ?_)
  obtain ⟨l, ac, d, a1, a2, a3, a4, a5, a6, a7, a8, a9, a10, a11⟩ := u
  refine br_t rfl (ib_Zlimit (n := 1) hz (by omega) (ib_fD hpm).1 (fun x => (ib_fD hpm).2 x) ens (by omega) (by omega) rfl (fun u hz => ?_))
  obtain ⟨l, ac, d, a1, a2, a3, a4, a5, a6, a7, a8, a9, a10, a11⟩ := u
  refine br_t rfl (ib_Zlimit (n := 2) hz (by omega) (ib_fF hpm).1 (fun x => (ib_fF hpm).2 x) et (by omega) (by omega) rfl (fun u hz => ?_))
  obtain ⟨l, ac, d, a1, a2, a3, a4, a5, a6, a7, a8, a9, a10, a11⟩ := u
  refine br_t rfl (ib_Zlimit (n := 3) hz (by omega) (ib_fB hpm).1 (fun x => (ib_fB hpm).2 x) ent (by omega) (by omega) rfl (fun u hz => ?_))
  obtain ⟨l, ac, d, a1, a2, a3, a4, a5, a6, a7, a8, a9, a10, a11⟩ := u
  refine br_t rfl (br_c (fun g => ib_c206 hpm (by omega) (by omega) (by omega) (by omega) es et ?_ hP ew (by omega) (by omega) hz) (fun g => ib_c206 hpm (by omega) (by omega) (by omega) (by omega) es et ?_ hP ew (by omega) (by omega) hz))
  · have g' := ib_le.mp g
    rw [es, z0] at g'
    rw [ib_sub (by rw [es, z17]; omega) (by rw [es, z17]; omega), es, z17]
    unfold ib_nn
    rw [if_neg (by omega)]
  · have g' : ¬ 0 ≤ (i : Int) - 16 := fun k => g (ib_le.mpr (by rw [es, z0]; exact k))
    rw [ib_add (by rw [es, z17]; omega) (by rw [es, z17]; omega), es, z17]
    unfold ib_nn
    rw [if_pos (by omega)]
theorem ib_cell {post : Int32 → Prop} {L : Nat} {xs : Nat → Int32} (hL : L ≤ 5) (k : Nat) (hk : k < 5) (H : ∀ v, post v) : wpL_cellAt post L xs () (nI k) := by
  unfold wpL_cellAt
  exact pk_le L k (fun _ => H _) (fun z => ⟨pk_in k L z, H _⟩)
theorem i_vc (xs : Nat → Int32) (L : Nat) (hL : L ≤ 5) : wpL_law (fun r => r = 1) L xs := by
  unfold wpL_law
  refine ib_cell hL 0 (by omega) (fun v0 => ib_cell hL 1 (by omega) (fun v1 => ib_cell hL 2 (by omega) (fun v2 => ib_cell hL 3 (by omega) (fun v3 => ib_cell hL 4 (by omega) (fun v4 => ⟨12, 262, by omega, by omega, ?_⟩)))))
  exact ib_lawOf rfl v0 v1 v2 v3 v4
end
