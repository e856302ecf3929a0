section
/-! numbers: an Int held in an Int32 or an Int64 -/
def cd_I (x : Int) : Int32 := Int32.ofInt x
def cd_L (x : Int) : Int64 := Int64.ofInt x
def cd_b (m x : Int) : Prop := -m ≤ x ∧ x ≤ m
theorem cd_b_le {m n x : Int} (h : cd_b m x) (hm : m ≤ n) : cd_b n x := by
  unfold cd_b at *
  omega
theorem cd_b_mul {m n x y : Int} (hx : cd_b m x) (hy : cd_b n y) : cd_b (m * n) (x * y) := by
  unfold cd_b at *
  have h1 : 0 ≤ (m - x) * (n + y) := Int.mul_nonneg (by omega) (by omega)
  have h2 : 0 ≤ (m + x) * (n - y) := Int.mul_nonneg (by omega) (by omega)
  have h3 : 0 ≤ (m - x) * (n - y) := Int.mul_nonneg (by omega) (by omega)
  have h4 : 0 ≤ (m + x) * (n + y) := Int.mul_nonneg (by omega) (by omega)
  rw [Int.sub_mul, Int.mul_add, Int.mul_add] at h1
  rw [Int.add_mul, Int.mul_sub, Int.mul_sub] at h2
  rw [Int.sub_mul, Int.mul_sub, Int.mul_sub] at h3
  rw [Int.add_mul, Int.mul_add, Int.mul_add] at h4
  constructor <;> omega
theorem cd_b_add {m n x y : Int} (hx : cd_b m x) (hy : cd_b n y) : cd_b (m + n) (x + y) := by
  unfold cd_b at *
  omega
theorem cd_b_sub {m n x y : Int} (hx : cd_b m x) (hy : cd_b n y) : cd_b (m + n) (x - y) := by
  unfold cd_b at *
  omega
theorem cd_b_neg {m x : Int} (hx : cd_b m x) : cd_b m (-x) := by
  unfold cd_b at *
  omega
theorem cd_I_add (x y : Int) : cd_I x + cd_I y = cd_I (x + y) := (Int32.ofInt_add x y).symm
theorem cd_I_sub (x y : Int) : cd_I x - cd_I y = cd_I (x - y) := (Int32.ofInt_sub x y).symm
theorem cd_I_mul (x y : Int) : cd_I x * cd_I y = cd_I (x * y) := (Int32.ofInt_mul x y).symm
theorem cd_I_neg (x : Int) : -cd_I x = cd_I (-x) := (Int32.ofInt_neg x).symm
theorem cd_L_add (x y : Int) : cd_L x + cd_L y = cd_L (x + y) := (Int64.ofInt_add x y).symm
theorem cd_L_sub (x y : Int) : cd_L x - cd_L y = cd_L (x - y) := (Int64.ofInt_sub x y).symm
theorem cd_L_mul (x y : Int) : cd_L x * cd_L y = cd_L (x * y) := (Int64.ofInt_mul x y).symm
theorem cd_L_neg (x : Int) : -cd_L x = cd_L (-x) := (Int64.ofInt_neg x).symm
theorem cd_I_nI (n : Nat) : cd_I (n : Int) = nI n := Int32.ofInt_eq_ofNat
theorem cd_L_lN (n : Nat) : cd_L (n : Int) = lN n := Int64.ofInt_eq_ofNat
theorem cd_I_toInt {x : Int} (h : cd_b 2000000000 x) : (cd_I x).toInt = x := by
  unfold cd_b at h
  exact Int32.toInt_ofInt_of_le (by omega) (by omega)
theorem cd_L_toInt {x : Int} (h : cd_b 4000000000000000000 x) : (cd_L x).toInt = x := by
  unfold cd_b at h
  exact Int64.toInt_ofInt_of_le (by omega) (by omega)
theorem cd_I_lt {x y : Int} (hx : cd_b 2000000000 x) (hy : cd_b 2000000000 y) : cd_I x < cd_I y ↔ x < y := by
  rw [Int32.lt_iff_toInt_lt, cd_I_toInt hx, cd_I_toInt hy]
theorem cd_I_le {x y : Int} (hx : cd_b 2000000000 x) (hy : cd_b 2000000000 y) : cd_I x ≤ cd_I y ↔ x ≤ y := by
  rw [Int32.le_iff_toInt_le, cd_I_toInt hx, cd_I_toInt hy]
theorem cd_I_eq {x y : Int} (hx : cd_b 2000000000 x) (hy : cd_b 2000000000 y) : cd_I x = cd_I y ↔ x = y := by
  rw [← Int32.toInt_inj, cd_I_toInt hx, cd_I_toInt hy]
theorem cd_L_lt {x y : Int} (hx : cd_b 4000000000000000000 x) (hy : cd_b 4000000000000000000 y) : cd_L x < cd_L y ↔ x < y := by
  rw [Int64.lt_iff_toInt_lt, cd_L_toInt hx, cd_L_toInt hy]
theorem cd_L_le {x y : Int} (hx : cd_b 4000000000000000000 x) (hy : cd_b 4000000000000000000 y) : cd_L x ≤ cd_L y ↔ x ≤ y := by
  rw [Int64.le_iff_toInt_le, cd_L_toInt hx, cd_L_toInt hy]
theorem cd_L_eq {x y : Int} (hx : cd_b 4000000000000000000 x) (hy : cd_b 4000000000000000000 y) : cd_L x = cd_L y ↔ x = y := by
  rw [← Int64.toInt_inj, cd_L_toInt hx, cd_L_toInt hy]
theorem cd_IL {x : Int} (h : cd_b 2000000000 x) : (cd_I x).toInt64 = cd_L x := by
  apply Int64.toInt_inj.mp
  rw [Int32.toInt_toInt64, cd_I_toInt h, cd_L_toInt (cd_b_le h (by decide))]
theorem cd_LI (x : Int) : (cd_L x).toInt32 = cd_I x := Int64.toInt32_ofInt
theorem cd_I0 : cd_I 0 = 0 := rfl
theorem cd_I1 : cd_I 1 = 1 := rfl
theorem cd_L0 : cd_L 0 = 0 := rfl
/-- fractions t/w with w above 0 -/
theorem cd_ftr {t1 w1 t2 w2 t3 w3 : Int} (h1 : 0 < w1) (h2 : 0 < w2) (h3 : 0 < w3) (a : t1 * w2 ≤ t2 * w1) (b : t2 * w3 ≤ t3 * w2) : t1 * w3 ≤ t3 * w1 := by
  have p := Int.mul_le_mul_of_nonneg_right a (Int.le_of_lt h3)
  have q := Int.mul_le_mul_of_nonneg_right b (Int.le_of_lt h1)
  have e1 : t1 * w2 * w3 = w2 * (t1 * w3) := by grind
  have e2 : t2 * w1 * w3 = t2 * w3 * w1 := by grind
  have e3 : t3 * w2 * w1 = w2 * (t3 * w1) := by grind
  rw [e1, e2] at p
  rw [e3] at q
  exact Int.le_of_mul_le_mul_left (Int.le_trans p q) h2
theorem cd_sgn {n d e : Int} (hn : 0 < n) (h : n * d = e) : d ≤ 0 ↔ e ≤ 0 := by
  constructor
  · intro hd
    have t : n * d ≤ n * 0 := Int.mul_le_mul_of_nonneg_left hd (Int.le_of_lt hn)
    rw [Int.mul_zero] at t
    omega
  · intro he
    rcases Int.lt_or_le 0 d with z | z
    · have t := Int.mul_pos hn z
      omega
    · exact z
end
section
/-! the plain law: conditions a x + b y ≤ c, points (x, y, w) with w above 0 -/
abbrev cd_P : Type := Int × Int × Int
abbrev cd_K : Type := List (Int × Int × Int)
def cd_A (K : cd_K) (j : Nat) : Int := (K.getD j (0, 0, 0)).1
def cd_B (K : cd_K) (j : Nat) : Int := (K.getD j (0, 0, 0)).2.1
def cd_C (K : cd_K) (j : Nat) : Int := (K.getD j (0, 0, 0)).2.2
def cd_S (K : cd_K) (j : Nat) (p : cd_P) : Prop := cd_A K j * p.1 + cd_B K j * p.2.1 ≤ cd_C K j * p.2.2
def cd_on (K : cd_K) (k : Nat) (p : cd_P) : Prop := cd_A K k * p.1 + cd_B K k * p.2.1 = cd_C K k * p.2.2
def cd_F (K : cd_K) (n wo : Nat) (p : cd_P) : Prop := 0 < p.2.2 ∧ ∀ j, j < n → j ≠ wo → cd_S K j p
def cd_T (K : cd_K) (k : Nat) (p : cd_P) : Int := cd_A K k * p.2.1 - cd_B K k * p.1
def cd_tn (K : cd_K) (k j : Nat) : Int := cd_A K k * cd_B K j - cd_A K j * cd_B K k
def cd_pb (p : cd_P) : Prop := cd_b 2000 p.1 ∧ cd_b 2000 p.2.1 ∧ 0 < p.2.2 ∧ p.2.2 ≤ 200
/-- one row is small, and no row of zeros -/
def cd_sm (K : cd_K) (j : Nat) : Prop := cd_b 9 (cd_A K j) ∧ cd_b 9 (cd_B K j) ∧ cd_b 99 (cd_C K j) ∧ ¬ (cd_A K j = 0 ∧ cd_B K j = 0)
/-- the crossing of the lines k and j, with a divisor above 0 if the turn is -/
def cd_X (K : cd_K) (k j : Nat) : cd_P := (cd_C K k * cd_B K j - cd_C K j * cd_B K k, cd_A K k * cd_C K j - cd_A K j * cd_C K k, cd_tn K k j)
def cd_Y (K : cd_K) (k j : Nat) : cd_P := (-(cd_C K k * cd_B K j - cd_C K j * cd_B K k), -(cd_A K k * cd_C K j - cd_A K j * cd_C K k), -cd_tn K k j)
def cd_lo (K : cd_K) (k : Nat) (o : Option cd_P) (p : cd_P) : Option cd_P := match o with
  | none => some p
  | some q => if cd_T K k p * q.2.2 ≤ cd_T K k q * p.2.2 then some q else some p
def cd_hi (K : cd_K) (k : Nat) (o : Option cd_P) (p : cd_P) : Option cd_P := match o with
  | none => some p
  | some q => if cd_T K k q * p.2.2 ≤ cd_T K k p * q.2.2 then some q else some p
def cd_par (K : cd_K) (k j : Nat) : Prop :=
  (cd_A K k = 0 → (cd_B K k ≤ 0 → cd_C K j * cd_B K k ≤ cd_B K j * cd_C K k) ∧ (0 < cd_B K k → cd_B K j * cd_C K k ≤ cd_C K j * cd_B K k)) ∧
  (cd_A K k ≠ 0 → (cd_A K k ≤ 0 → cd_C K j * cd_A K k ≤ cd_A K j * cd_C K k) ∧ (0 < cd_A K k → cd_A K j * cd_C K k ≤ cd_C K j * cd_A K k))
theorem cd_sqp {a : Int} (h : a ≠ 0) : 0 < a * a := by
  rcases Int.lt_or_le a 0 with z | z
  · exact Int.mul_pos_of_neg_of_neg z z
  · exact Int.mul_pos (by omega) (by omega)
theorem cd_sq (a : Int) : 0 ≤ a * a := by
  by_cases h : a = 0
  · rw [h]; decide
  · exact Int.le_of_lt (cd_sqp h)
theorem cd_npos {a b : Int} (h : ¬ (a = 0 ∧ b = 0)) : 0 < a * a + b * b := by
  have h1 := cd_sq a
  have h2 := cd_sq b
  by_cases ha : a = 0
  · have hb : b ≠ 0 := fun e => h ⟨ha, e⟩
    have := cd_sqp hb
    omega
  · have := cd_sqp ha
    omega
theorem cd_id (a b c a' b' c' x y w : Int) (h : a * x + b * y = c * w) : (a * a + b * b) * (a' * x + b' * y - c' * w) = (a * y - b * x) * (a * b' - a' * b) - (a * (a * c' - a' * c) - b * (c * b' - c' * b)) * w := by
  have e : (a * a + b * b) * (a' * x + b' * y - c' * w) = (a * a' + b * b') * (a * x + b * y) + (a * y - b * x) * (a * b' - a' * b) - (a * a + b * b) * c' * w := by grind
  rw [e, h]
  grind
theorem cd_onl (a b c P Q x y w x' y' w' : Int) (h : a * x + b * y = c * w) (h' : a * x' + b * y' = c * w') : (a * a + b * b) * ((P * x + Q * y) * w' - (P * x' + Q * y') * w) = (Q * a - P * b) * ((a * y - b * x) * w' - (a * y' - b * x') * w) := by
  have e : (a * a + b * b) * ((P * x + Q * y) * w' - (P * x' + Q * y') * w) = (P * a + Q * b) * ((a * x + b * y) * w' - (a * x' + b * y') * w) + (Q * a - P * b) * ((a * y - b * x) * w' - (a * y' - b * x') * w) := by grind
  rw [e, h, h']
  grind
theorem cd_S_line {K : cd_K} {k j : Nat} {p : cd_P} (hn : ¬ (cd_A K k = 0 ∧ cd_B K k = 0)) (on : cd_on K k p) : cd_S K j p ↔ cd_T K k p * cd_tn K k j ≤ cd_T K k (cd_X K k j) * p.2.2 := by
  have e := cd_id _ _ _ (cd_A K j) (cd_B K j) (cd_C K j) _ _ _ on
  have s := cd_sgn (cd_npos hn) e
  unfold cd_S cd_T cd_tn cd_X
  dsimp only
  constructor
  · intro h
    have := s.mp (by omega)
    omega
  · intro h
    have := s.mpr (by omega)
    omega
theorem cd_T_Y (K : cd_K) (k j : Nat) : cd_T K k (cd_Y K k j) = -cd_T K k (cd_X K k j) := by
  unfold cd_T cd_Y cd_X
  dsimp only
  grind
theorem cd_X_on (K : cd_K) (k j : Nat) : cd_on K k (cd_X K k j) := by
  unfold cd_on cd_X cd_tn
  dsimp only
  grind
theorem cd_Y_on (K : cd_K) (k j : Nat) : cd_on K k (cd_Y K k j) := by
  unfold cd_on cd_Y cd_tn
  dsimp only
  grind
theorem cd_X_b {K : cd_K} {k j : Nat} (hk : cd_sm K k) (hj : cd_sm K j) : cd_b 2000 (cd_C K k * cd_B K j - cd_C K j * cd_B K k) ∧ cd_b 2000 (cd_A K k * cd_C K j - cd_A K j * cd_C K k) ∧ cd_b 200 (cd_tn K k j) := by
  obtain ⟨a, b, c, _⟩ := hk
  obtain ⟨a', b', c', _⟩ := hj
  exact ⟨cd_b_le (cd_b_sub (cd_b_mul c b') (cd_b_mul c' b)) (by decide), cd_b_le (cd_b_sub (cd_b_mul a c') (cd_b_mul a' c)) (by decide), cd_b_le (cd_b_sub (cd_b_mul a b') (cd_b_mul a' b)) (by decide)⟩
theorem cd_X_pb {K : cd_K} {k j : Nat} (hk : cd_sm K k) (hj : cd_sm K j) (ht : 0 < cd_tn K k j) : cd_pb (cd_X K k j) :=
  ⟨(cd_X_b hk hj).1, (cd_X_b hk hj).2.1, ht, (cd_X_b hk hj).2.2.2⟩
theorem cd_Y_pb {K : cd_K} {k j : Nat} (hk : cd_sm K k) (hj : cd_sm K j) (ht : cd_tn K k j < 0) : cd_pb (cd_Y K k j) := by
  have h := (cd_X_b hk hj).2.2.1
  refine ⟨cd_b_neg (cd_X_b hk hj).1, cd_b_neg (cd_X_b hk hj).2.1, ?_, ?_⟩
  · show 0 < -cd_tn K k j
    omega
  · show -cd_tn K k j ≤ 200
    omega
theorem cd_hi_ne (K : cd_K) (k : Nat) (o : Option cd_P) (p : cd_P) : cd_hi K k o p ≠ none := by
  unfold cd_hi
  cases o with
  | none => simp
  | some q =>
    dsimp only
    split <;> simp
theorem cd_lo_ne (K : cd_K) (k : Nat) (o : Option cd_P) (p : cd_P) : cd_lo K k o p ≠ none := by
  unfold cd_lo
  cases o with
  | none => simp
  | some q =>
    dsimp only
    split <;> simp
theorem cd_hi_mem {K : cd_K} {k : Nat} {o : Option cd_P} {p q : cd_P} (h : cd_hi K k o p = some q) : q = p ∨ o = some q := by
  unfold cd_hi at h
  cases o with
  | none => exact Or.inl (Option.some.inj h).symm
  | some r =>
    dsimp only at h
    split at h
    · exact Or.inr h
    · exact Or.inl (Option.some.inj h).symm
theorem cd_lo_mem {K : cd_K} {k : Nat} {o : Option cd_P} {p q : cd_P} (h : cd_lo K k o p = some q) : q = p ∨ o = some q := by
  unfold cd_lo at h
  cases o with
  | none => exact Or.inl (Option.some.inj h).symm
  | some r =>
    dsimp only at h
    split at h
    · exact Or.inr h
    · exact Or.inl (Option.some.inj h).symm
theorem cd_hi_iff {K : cd_K} {k : Nat} {o : Option cd_P} {p z : cd_P} (hp : 0 < p.2.2) (ho : ∀ q, o = some q → 0 < q.2.2) (hz : 0 < z.2.2) : (∀ q, cd_hi K k o p = some q → cd_T K k z * q.2.2 ≤ cd_T K k q * z.2.2) ↔ (∀ q, o = some q → cd_T K k z * q.2.2 ≤ cd_T K k q * z.2.2) ∧ cd_T K k z * p.2.2 ≤ cd_T K k p * z.2.2 := by
  cases o with
  | none =>
    constructor
    · intro h
      exact ⟨fun q e => absurd e.symm (Option.some_ne_none q), h p rfl⟩
    · intro h q e
      rw [← Option.some.inj (show some p = some q from e)]
      exact h.2
  | some r =>
    have hr := ho r rfl
    by_cases c : cd_T K k r * p.2.2 ≤ cd_T K k p * r.2.2
    · have e : cd_hi K k (some r) p = some r := if_pos c
      rw [e]
      constructor
      · intro h
        exact ⟨h, cd_ftr hz hr hp (h r rfl) c⟩
      · intro h
        exact h.1
    · have e : cd_hi K k (some r) p = some p := if_neg c
      rw [e]
      constructor
      · intro h
        refine ⟨fun q eq => ?_, h p rfl⟩
        rw [← Option.some.inj eq]
        exact cd_ftr hz hp hr (h p rfl) (by omega)
      · intro h q eq
        rw [← Option.some.inj eq]
        exact h.2
theorem cd_lo_iff {K : cd_K} {k : Nat} {o : Option cd_P} {p z : cd_P} (hp : 0 < p.2.2) (ho : ∀ q, o = some q → 0 < q.2.2) (hz : 0 < z.2.2) : (∀ q, cd_lo K k o p = some q → cd_T K k q * z.2.2 ≤ cd_T K k z * q.2.2) ↔ (∀ q, o = some q → cd_T K k q * z.2.2 ≤ cd_T K k z * q.2.2) ∧ cd_T K k p * z.2.2 ≤ cd_T K k z * p.2.2 := by
  cases o with
  | none =>
    constructor
    · intro h
      exact ⟨fun q e => absurd e.symm (Option.some_ne_none q), h p rfl⟩
    · intro h q e
      rw [← Option.some.inj (show some p = some q from e)]
      exact h.2
  | some r =>
    have hr := ho r rfl
    by_cases c : cd_T K k p * r.2.2 ≤ cd_T K k r * p.2.2
    · have e : cd_lo K k (some r) p = some r := if_pos c
      rw [e]
      constructor
      · intro h
        exact ⟨h, cd_ftr hp hr hz c (h r rfl)⟩
      · intro h
        exact h.1
    · have e : cd_lo K k (some r) p = some p := if_neg c
      rw [e]
      constructor
      · intro h
        refine ⟨fun q eq => ?_, h p rfl⟩
        rw [← Option.some.inj eq]
        exact cd_ftr hr hp hz (by omega) (h p rfl)
      · intro h q eq
        rw [← Option.some.inj eq]
        exact h.2
theorem cd_fs {wo i : Nat} {s : Nat → Prop} (hi : i ≠ wo) : (∀ j, j < i + 1 → j ≠ wo → s j) ↔ (∀ j, j < i → j ≠ wo → s j) ∧ s i := by
  constructor
  · intro h
    exact ⟨fun j hj => h j (by omega), h i (by omega) hi⟩
  · intro h j hj hw
    by_cases e : j = i
    · rw [e]; exact h.2
    · exact h.1 j (by omega) hw
theorem cd_fw {wo i : Nat} {s : Nat → Prop} (hi : i = wo) : (∀ j, j < i + 1 → j ≠ wo → s j) ↔ (∀ j, j < i → j ≠ wo → s j) := by
  constructor
  · intro h
    exact fun j hj => h j (by omega)
  · intro h j hj hw
    exact h j (by omega) hw
theorem cd_par_iff {K : cd_K} {k j : Nat} {p : cd_P} (hn : ¬ (cd_A K k = 0 ∧ cd_B K k = 0)) (ht : cd_tn K k j = 0) (hp : 0 < p.2.2) (on : cd_on K k p) : cd_S K j p ↔ cd_par K k j := by
  unfold cd_tn at ht
  unfold cd_on at on
  unfold cd_S cd_par
  generalize cd_A K k = a at *
  generalize cd_B K k = b at *
  generalize cd_C K k = c at *
  generalize cd_A K j = a' at *
  generalize cd_B K j = b' at *
  generalize cd_C K j = c' at *
  obtain ⟨x, y, w⟩ := p
  dsimp only at *
  have ea : a * (a' * x + b' * y - c' * w) = w * (a' * c - c' * a) := by
    have : a * (a' * x + b' * y - c' * w) = a' * (a * x + b * y) + (a * b' - a' * b) * y - a * (c' * w) := by grind
    rw [this, ht, on]
    grind
  have eb : b * (a' * x + b' * y - c' * w) = w * (b' * c - c' * b) := by
    have : b * (a' * x + b' * y - c' * w) = b' * (a * x + b * y) - (a * b' - a' * b) * x - b * (c' * w) := by grind
    rw [this, ht, on]
    grind
  have ea' : -a * (a' * x + b' * y - c' * w) = w * (c' * a - a' * c) := by
    rw [Int.neg_mul, ea]
    grind
  have eb' : -b * (a' * x + b' * y - c' * w) = w * (c' * b - b' * c) := by
    rw [Int.neg_mul, eb]
    grind
  by_cases ha : a = 0
  · have hb : b ≠ 0 := fun e => hn ⟨ha, e⟩
    rcases Int.lt_or_le 0 b with z | z
    · have s := cd_sgn z eb
      have s' := cd_sgn hp (rfl : w * (b' * c - c' * b) = _)
      constructor
      · intro h
        have := s'.mpr (s.mp (by omega))
        exact ⟨fun _ => ⟨fun t => absurd t (by omega), fun _ => by omega⟩, fun t => absurd ha t⟩
      · intro h
        have := (h.1 ha).2 z
        have := s.mpr (s'.mp (by omega))
        omega
    · have s := cd_sgn (show 0 < -b by omega) eb'
      have s' := cd_sgn hp (rfl : w * (c' * b - b' * c) = _)
      constructor
      · intro h
        have := s'.mpr (s.mp (by omega))
        exact ⟨fun _ => ⟨fun _ => by omega, fun t => absurd t (by omega)⟩, fun t => absurd ha t⟩
      · intro h
        have := (h.1 ha).1 z
        have := s.mpr (s'.mp (by omega))
        omega
  · rcases Int.lt_or_le 0 a with z | z
    · have s := cd_sgn z ea
      have s' := cd_sgn hp (rfl : w * (a' * c - c' * a) = _)
      constructor
      · intro h
        have := s'.mpr (s.mp (by omega))
        exact ⟨fun t => absurd t ha, fun _ => ⟨fun t => absurd t (by omega), fun _ => by omega⟩⟩
      · intro h
        have := (h.2 ha).2 z
        have := s.mpr (s'.mp (by omega))
        omega
    · have s := cd_sgn (show 0 < -a by omega) ea'
      have s' := cd_sgn hp (rfl : w * (c' * a - a' * c) = _)
      constructor
      · intro h
        have := s'.mpr (s.mp (by omega))
        exact ⟨fun t => absurd t ha, fun _ => ⟨fun _ => by omega, fun t => absurd t (by omega)⟩⟩
      · intro h
        have := (h.2 ha).1 z
        have := s.mpr (s'.mp (by omega))
        omega
end
section
/-- the invariant of moveOnto's loop ahead of condition i: the stretch from lo to hi is what the conditions below i leave of line k -/
def cd_M (K : cd_K) (k wo i : Nat) (lo hi : Option cd_P) : Prop :=
  (∀ p : cd_P, 0 < p.2.2 → cd_on K k p → ((∀ j, j < i → j ≠ wo → cd_S K j p) ↔ (∀ q, lo = some q → cd_T K k q * p.2.2 ≤ cd_T K k p * q.2.2) ∧ (∀ q, hi = some q → cd_T K k p * q.2.2 ≤ cd_T K k q * p.2.2)))
  ∧ (∀ q, lo = some q → cd_on K k q ∧ cd_pb q) ∧ (∀ q, hi = some q → cd_on K k q ∧ cd_pb q)
  ∧ (∀ j, j < i → j ≠ wo → cd_tn K k j < 0 → lo ≠ none) ∧ (∀ j, j < i → j ≠ wo → 0 < cd_tn K k j → hi ≠ none)
theorem cd_M_0 (K : cd_K) (k wo : Nat) : cd_M K k wo 0 none none :=
  ⟨fun _ _ _ => ⟨fun _ => ⟨fun q e => absurd e.symm (Option.some_ne_none q), fun q e => absurd e.symm (Option.some_ne_none q)⟩, fun _ j hj => absurd hj (by omega)⟩,
   fun q e => absurd e.symm (Option.some_ne_none q), fun q e => absurd e.symm (Option.some_ne_none q), fun j hj => absurd hj (by omega), fun j hj => absurd hj (by omega)⟩
theorem cd_M_skip {K : cd_K} {k wo i : Nat} {lo hi : Option cd_P} (h : cd_M K k wo i lo hi) (hi' : i = wo) : cd_M K k wo (i + 1) lo hi := by
  obtain ⟨h1, h2, h3, h4, h5⟩ := h
  exact ⟨fun p hp on => (cd_fw hi').trans (h1 p hp on), h2, h3, (cd_fw (s := fun j => cd_tn K k j < 0 → lo ≠ none) hi').mpr h4, (cd_fw (s := fun j => 0 < cd_tn K k j → hi ≠ none) hi').mpr h5⟩
theorem cd_M_par {K : cd_K} {k wo i : Nat} {lo hi : Option cd_P} (h : cd_M K k wo i lo hi) (hw : i ≠ wo) (hk : cd_sm K k) (ht : cd_tn K k i = 0) (hp : cd_par K k i) : cd_M K k wo (i + 1) lo hi := by
  obtain ⟨h1, h2, h3, h4, h5⟩ := h
  refine ⟨fun p hp' on => (cd_fs hw).trans ⟨fun t => (h1 p hp' on).mp t.1, fun t => ⟨(h1 p hp' on).mpr t, (cd_par_iff hk.2.2.2 ht hp' on).mpr hp⟩⟩, h2, h3, ?_, ?_⟩
  · exact (cd_fs (s := fun j => cd_tn K k j < 0 → lo ≠ none) hw).mpr ⟨h4, fun t => absurd t (by omega)⟩
  · exact (cd_fs (s := fun j => 0 < cd_tn K k j → hi ≠ none) hw).mpr ⟨h5, fun t => absurd t (by omega)⟩
theorem cd_M_hi {K : cd_K} {k wo i : Nat} {lo hi : Option cd_P} (h : cd_M K k wo i lo hi) (hw : i ≠ wo) (hk : cd_sm K k) (hj : cd_sm K i) (ht : 0 < cd_tn K k i) : cd_M K k wo (i + 1) lo (cd_hi K k hi (cd_X K k i)) := by
  obtain ⟨h1, h2, h3, h4, h5⟩ := h
  refine ⟨fun p hp' on => (cd_fs hw).trans ?_, h2, ?_, ?_, ?_⟩
  · rw [h1 p hp' on, cd_hi_iff (show 0 < (cd_X K k i).2.2 from ht) (fun q e => (h3 q e).2.2.2.1) hp', cd_S_line hk.2.2.2 on]
    exact and_assoc
  · intro q e
    rcases cd_hi_mem e with e' | e'
    · rw [e']
      exact ⟨cd_X_on K k i, cd_X_pb hk hj ht⟩
    · exact h3 q e'
  · exact (cd_fs (s := fun j => cd_tn K k j < 0 → lo ≠ none) hw).mpr ⟨h4, fun t => absurd t (by omega)⟩
  · exact fun _ _ _ _ => cd_hi_ne K k hi _
theorem cd_M_lo {K : cd_K} {k wo i : Nat} {lo hi : Option cd_P} (h : cd_M K k wo i lo hi) (hw : i ≠ wo) (hk : cd_sm K k) (hj : cd_sm K i) (ht : cd_tn K k i < 0) : cd_M K k wo (i + 1) (cd_lo K k lo (cd_Y K k i)) hi := by
  obtain ⟨h1, h2, h3, h4, h5⟩ := h
  have hy : 0 < (cd_Y K k i).2.2 := by
    show 0 < -cd_tn K k i
    omega
  refine ⟨fun p hp' on => (cd_fs hw).trans ?_, ?_, h3, ?_, ?_⟩
  · have e : cd_S K i p ↔ cd_T K k (cd_Y K k i) * p.2.2 ≤ cd_T K k p * (cd_Y K k i).2.2 := by
      rw [cd_S_line hk.2.2.2 on, cd_T_Y]
      show _ ↔ _ ≤ cd_T K k p * -cd_tn K k i
      rw [Int.neg_mul, Int.mul_neg]
      constructor <;> intro t <;> omega
    rw [h1 p hp' on, cd_lo_iff hy (fun q e => (h2 q e).2.2.2.1) hp', e]
    constructor
    · intro t
      exact ⟨⟨t.1.1, t.2⟩, t.1.2⟩
    · intro t
      exact ⟨⟨t.1.1, t.2⟩, t.1.2⟩
  · intro q e
    rcases cd_lo_mem e with e' | e'
    · rw [e']
      exact ⟨cd_Y_on K k i, cd_Y_pb hk hj ht⟩
    · exact h2 q e'
  · exact fun _ _ _ _ => cd_lo_ne K k lo _
  · exact (cd_fs (s := fun j => 0 < cd_tn K k j → hi ≠ none) hw).mpr ⟨h5, fun t => absurd t (by omega)⟩
/-- no point of line k meets all below n -/
def cd_nol (K : cd_K) (k n wo : Nat) : Prop := ∀ p : cd_P, 0 < p.2.2 → cd_on K k p → ¬ ∀ j, j < n → j ≠ wo → cd_S K j p
theorem cd_nol_par {K : cd_K} {k wo i : Nat} (hi : i < k) (hw : i ≠ wo) (hk : cd_sm K k) (ht : cd_tn K k i = 0) (hp : ¬ cd_par K k i) : cd_nol K k k wo :=
  fun p hp' on h => hp ((cd_par_iff hk.2.2.2 ht hp' on).mp (h i hi hw))
theorem cd_nol_lh {K : cd_K} {k n wo : Nat} {l h : cd_P} (m : cd_M K k wo n (some l) (some h)) (hl : ¬ cd_T K k l * h.2.2 ≤ cd_T K k h * l.2.2) : cd_nol K k n wo := by
  intro p hp on t
  have u := (m.1 p hp on).mp t
  exact hl (cd_ftr (m.2.1 l rfl).2.2.2.1 hp (m.2.2.1 h rfl).2.2.2.1 (u.1 l rfl) (u.2 h rfl))
/-- the list of conditions: the box, then small rows -/
def cd_ok (K : cd_K) : Prop := 4 ≤ K.length ∧ K.length ≤ 14 ∧ (∀ j, j < K.length → cd_sm K j) ∧ K.getD 0 (0, 0, 0) = (1, 0, 50) ∧ K.getD 1 (0, 0, 0) = (-1, 0, 50) ∧ K.getD 2 (0, 0, 0) = (0, 1, 50) ∧ K.getD 3 (0, 0, 0) = (0, -1, 50)
theorem cd_M_full {K : cd_K} {k wo : Nat} {lo hi : Option cd_P} (ok : cd_ok K) (hk : cd_sm K k) (h4 : 4 ≤ k) (hw : 4 ≤ wo) (m : cd_M K k wo k lo hi) : ∃ l h, lo = some l ∧ hi = some h := by
  obtain ⟨_, _, _, o0, o1, o2, o3⟩ := ok
  obtain ⟨_, _, _, m4, m5⟩ := m
  have t0 : cd_tn K k 0 = -cd_B K k := by
    unfold cd_tn
    rw [show cd_A K 0 = 1 from congrArg (fun t => t.1) o0, show cd_B K 0 = 0 from congrArg (fun t => t.2.1) o0]
    omega
  have t1 : cd_tn K k 1 = cd_B K k := by
    unfold cd_tn
    rw [show cd_A K 1 = -1 from congrArg (fun t => t.1) o1, show cd_B K 1 = 0 from congrArg (fun t => t.2.1) o1]
    omega
  have t2 : cd_tn K k 2 = cd_A K k := by
    unfold cd_tn
    rw [show cd_A K 2 = 0 from congrArg (fun t => t.1) o2, show cd_B K 2 = 1 from congrArg (fun t => t.2.1) o2]
    omega
  have t3 : cd_tn K k 3 = -cd_A K k := by
    unfold cd_tn
    rw [show cd_A K 3 = 0 from congrArg (fun t => t.1) o3, show cd_B K 3 = -1 from congrArg (fun t => t.2.1) o3]
    omega
  have hn := hk.2.2.2
  have n1 : lo ≠ none := by
    by_cases b0 : cd_B K k = 0
    · rcases Int.lt_or_le (cd_A K k) 0 with z | z
      · exact m4 2 (by omega) (by omega) (by omega)
      · exact m4 3 (by omega) (by omega) (by omega)
    · rcases Int.lt_or_le (cd_B K k) 0 with z | z
      · exact m4 1 (by omega) (by omega) (by omega)
      · exact m4 0 (by omega) (by omega) (by omega)
  have n2 : hi ≠ none := by
    by_cases b0 : cd_B K k = 0
    · rcases Int.lt_or_le (cd_A K k) 0 with z | z
      · exact m5 3 (by omega) (by omega) (by omega)
      · exact m5 2 (by omega) (by omega) (by omega)
    · rcases Int.lt_or_le (cd_B K k) 0 with z | z
      · exact m5 0 (by omega) (by omega) (by omega)
      · exact m5 1 (by omega) (by omega) (by omega)
  cases lo with
  | none => exact absurd rfl n1
  | some l =>
    cases hi with
    | none => exact absurd rfl n2
    | some h => exact ⟨l, h, rfl, rfl⟩
/-- the aim, with the ties broken: p x + q y, then least x, then least y -/
def cd_v (M p q : Int) (z : cd_P) : Int := (p * M * M - M) * z.1 + (q * M * M - 1) * z.2.1
def cd_Opt (K : cd_K) (n wo : Nat) (p q : Int) (z : cd_P) : Prop := cd_F K n wo z ∧ ∀ M, 100 ≤ M → ∀ z', cd_F K n wo z' → cd_v M p q z' * z.2.2 ≤ cd_v M p q z * z'.2.2
theorem cd_F_mono {K : cd_K} {m n wo : Nat} {z : cd_P} (h : cd_F K n wo z) (hm : m ≤ n) : cd_F K m wo z := ⟨h.1, fun j hj => h.2 j (by omega)⟩
theorem cd_Opt_skip {K : cd_K} {i wo : Nat} {p q : Int} {z : cd_P} (h : cd_Opt K i wo p q z) (hi : i = wo) : cd_Opt K (i + 1) wo p q z :=
  ⟨⟨h.1.1, (cd_fw hi).mpr h.1.2⟩, fun M hM z' hz' => h.2 M hM z' (cd_F_mono hz' (by omega))⟩
theorem cd_Opt_meets {K : cd_K} {i wo : Nat} {p q : Int} {z : cd_P} (h : cd_Opt K i wo p q z) (hi : i ≠ wo) (hs : cd_S K i z) : cd_Opt K (i + 1) wo p q z :=
  ⟨⟨h.1.1, (cd_fs hi).mpr ⟨h.1.2, hs⟩⟩, fun M hM z' hz' => h.2 M hM z' (cd_F_mono hz' (by omega))⟩
/-- from a point that meets all and a better one that breaks k: a point on line k, no worse than the first -/
theorem cd_cross {K : cd_K} {k wo : Nat} {z z' : cd_P} {M p q : Int} (hz : cd_F K k wo z) (hv : ¬ cd_S K k z) (hz' : cd_F K (k + 1) wo z') (hk : k ≠ wo) (ho : cd_v M p q z' * z.2.2 ≤ cd_v M p q z * z'.2.2) : ∃ t : cd_P, cd_F K k wo t ∧ cd_on K k t ∧ cd_v M p q z' * t.2.2 ≤ cd_v M p q t * z'.2.2 := by
  obtain ⟨x, y, w⟩ := z
  obtain ⟨x', y', w'⟩ := z'
  have hw : 0 < w := hz.1
  have hw' : 0 < w' := hz'.1
  have hs := hz'.2 k (by omega) hk
  unfold cd_S at hv hs
  dsimp only at hv hs
  unfold cd_v at ho
  dsimp only at ho
  have hα : 0 < cd_A K k * x + cd_B K k * y - cd_C K k * w := by omega
  have hβ : 0 ≤ cd_C K k * w' - (cd_A K k * x' + cd_B K k * y') := by omega
  obtain ⟨α, eα⟩ : ∃ α, α = cd_A K k * x + cd_B K k * y - cd_C K k * w := ⟨_, rfl⟩
  obtain ⟨β, eβ⟩ : ∃ β, β = cd_C K k * w' - (cd_A K k * x' + cd_B K k * y') := ⟨_, rfl⟩
  rw [← eα] at hα
  rw [← eβ] at hβ
  refine ⟨(β * x + α * x', β * y + α * y', β * w + α * w'), ⟨?_, ?_⟩, ?_, ?_⟩
  · show 0 < β * w + α * w'
    have h1 := Int.mul_nonneg hβ (Int.le_of_lt hw)
    have h2 := Int.mul_pos hα hw'
    omega
  · intro j hj hjw
    have s1 := hz.2 j hj hjw
    have s2 := hz'.2 j (by omega) hjw
    unfold cd_S at s1 s2 ⊢
    dsimp only at s1 s2 ⊢
    have h1 := Int.mul_le_mul_of_nonneg_left s1 hβ
    have h2 := Int.mul_le_mul_of_nonneg_left s2 (Int.le_of_lt hα)
    have e1 : cd_A K j * (β * x + α * x') + cd_B K j * (β * y + α * y') = β * (cd_A K j * x + cd_B K j * y) + α * (cd_A K j * x' + cd_B K j * y') := by grind
    have e2 : cd_C K j * (β * w + α * w') = β * (cd_C K j * w) + α * (cd_C K j * w') := by grind
    rw [e1, e2]
    omega
  · unfold cd_on
    dsimp only
    have e1 : cd_A K k * (β * x + α * x') + cd_B K k * (β * y + α * y') - cd_C K k * (β * w + α * w') = β * (cd_A K k * x + cd_B K k * y - cd_C K k * w) - α * (cd_C K k * w' - (cd_A K k * x' + cd_B K k * y')) := by grind
    rw [← eα, ← eβ, Int.mul_comm β α] at e1
    omega
  · unfold cd_v
    dsimp only
    generalize p * M * M - M = P at *
    generalize q * M * M - 1 = Q at *
    have h1 := Int.mul_le_mul_of_nonneg_left ho hβ
    have e1 : (P * x' + Q * y') * (β * w + α * w') = β * ((P * x' + Q * y') * w) + α * ((P * x' + Q * y') * w') := by grind
    have e2 : (P * (β * x + α * x') + Q * (β * y + α * y')) * w' = β * ((P * x + Q * y) * w') + α * ((P * x' + Q * y') * w') := by grind
    rw [e1, e2]
    omega
def cd_up (a b p q : Int) : Prop := 0 < q * a - p * b ∨ (q * a - p * b = 0 ∧ (0 < b ∨ (b = 0 ∧ a < 0)))
theorem cd_up_g {a b p q M : Int} (ha : cd_b 9 a) (hb : cd_b 9 b) (hM : 100 ≤ M) : (cd_up a b p q → 0 ≤ (q * M * M - 1) * a - (p * M * M - M) * b) ∧ (¬ cd_up a b p q → (q * M * M - 1) * a - (p * M * M - M) * b ≤ 0) := by
  unfold cd_b at ha hb
  unfold cd_up
  have e : (q * M * M - 1) * a - (p * M * M - M) * b = M * (M * (q * a - p * b) + b) - a := by grind
  rw [e]
  generalize q * a - p * b = G at *
  have hM0 : 0 ≤ M := by omega
  rcases Int.lt_or_le 0 G with g | g
  · have s : M * 1 ≤ M * G := Int.mul_le_mul_of_nonneg_left (by omega) hM0
    have r : M * 91 ≤ M * (M * G + b) := Int.mul_le_mul_of_nonneg_left (by omega) hM0
    exact ⟨fun _ => by omega, fun h => absurd (Or.inl g) h⟩
  · rcases Int.lt_or_le G 0 with g' | g'
    · have s : M * G ≤ M * (-1) := Int.mul_le_mul_of_nonneg_left (by omega) hM0
      have r : M * (M * G + b) ≤ M * (-91) := Int.mul_le_mul_of_nonneg_left (by omega) hM0
      exact ⟨fun h => by omega, fun _ => by omega⟩
    · have g0 : G = 0 := by omega
      rw [g0, Int.mul_zero, Int.zero_add]
      rcases Int.lt_or_le 0 b with z | z
      · have r : M * 1 ≤ M * b := Int.mul_le_mul_of_nonneg_left (by omega) hM0
        exact ⟨fun _ => by omega, fun h => absurd (Or.inr ⟨rfl, Or.inl z⟩) h⟩
      · rcases Int.lt_or_le b 0 with z' | z'
        · have r : M * b ≤ M * (-1) := Int.mul_le_mul_of_nonneg_left (by omega) hM0
          exact ⟨fun h => by omega, fun _ => by omega⟩
        · have b0 : b = 0 := by omega
          rw [b0, Int.mul_zero]
          exact ⟨fun h => by omega, fun h => by omega⟩
theorem cd_line_le {K : cd_K} {k : Nat} {M p q : Int} {t h : cd_P} (hn : ¬ (cd_A K k = 0 ∧ cd_B K k = 0)) (ot : cd_on K k t) (oh : cd_on K k h)
    (hg : ((q * M * M - 1) * cd_A K k - (p * M * M - M) * cd_B K k) * (cd_T K k t * h.2.2 - cd_T K k h * t.2.2) ≤ 0) : cd_v M p q t * h.2.2 ≤ cd_v M p q h * t.2.2 := by
  have e := cd_onl _ _ _ (p * M * M - M) (q * M * M - 1) _ _ _ _ _ _ ot oh
  have s := (cd_sgn (cd_npos hn) e).mpr hg
  unfold cd_v
  omega
theorem cd_Opt_move {K : cd_K} {k wo : Nat} {p q : Int} {z l h : cd_P} (hk : cd_sm K k) (hO : cd_Opt K k wo p q z) (hv : ¬ cd_S K k z) (hw : k ≠ wo) (m : cd_M K k wo k (some l) (some h)) (hlh : cd_T K k l * h.2.2 ≤ cd_T K k h * l.2.2) :
    (cd_up (cd_A K k) (cd_B K k) p q → cd_Opt K (k + 1) wo p q h) ∧ (¬ cd_up (cd_A K k) (cd_B K k) p q → cd_Opt K (k + 1) wo p q l) := by
  obtain ⟨m1, m2, m3, _, _⟩ := m
  obtain ⟨ol, bl⟩ := m2 l rfl
  obtain ⟨oh, bh⟩ := m3 h rfl
  have wl : 0 < l.2.2 := bl.2.2.1
  have wh : 0 < h.2.2 := bh.2.2.1
  constructor
  · intro u
    refine ⟨⟨wh, (cd_fs hw).mpr ⟨(m1 h wh oh).mpr ⟨?_, ?_⟩, Int.le_of_eq oh⟩⟩, ?_⟩
    · intro q' e
      rw [← Option.some.inj e]
      exact hlh
    · intro q' e
      rw [← Option.some.inj e]
      exact Int.le_refl _
    · intro M hM z' hz'
      obtain ⟨t, ft, ot, vt⟩ := cd_cross hO.1 hv hz' hw (hO.2 M hM z' (cd_F_mono hz' (by omega)))
      have tt := ((m1 t ft.1 ot).mp ft.2).2 h rfl
      refine cd_ftr hz'.1 ft.1 wh vt (cd_line_le hk.2.2.2 ot oh ?_)
      exact Int.mul_nonpos_of_nonneg_of_nonpos ((cd_up_g hk.1 hk.2.1 hM).1 u) (by omega)
  · intro u
    refine ⟨⟨wl, (cd_fs hw).mpr ⟨(m1 l wl ol).mpr ⟨?_, ?_⟩, Int.le_of_eq ol⟩⟩, ?_⟩
    · intro q' e
      rw [← Option.some.inj e]
      exact Int.le_refl _
    · intro q' e
      rw [← Option.some.inj e]
      exact hlh
    · intro M hM z' hz'
      obtain ⟨t, ft, ot, vt⟩ := cd_cross hO.1 hv hz' hw (hO.2 M hM z' (cd_F_mono hz' (by omega)))
      have tt := ((m1 t ft.1 ot).mp ft.2).1 l rfl
      refine cd_ftr hz'.1 ft.1 wl vt (cd_line_le hk.2.2.2 ot ol ?_)
      exact Int.mul_nonpos_of_nonpos_of_nonneg ((cd_up_g hk.1 hk.2.1 hM).2 u) (by omega)
theorem cd_inf {K : cd_K} {k n wo : Nat} {p q : Int} {z : cd_P} (hO : cd_Opt K k wo p q z) (hv : ¬ cd_S K k z) (hw : k ≠ wo) (hn : k < n) (no : cd_nol K k k wo) : ∀ z', ¬ cd_F K n wo z' := by
  intro z' hz'
  obtain ⟨t, ft, ot, _⟩ := cd_cross hO.1 hv (cd_F_mono hz' (show k + 1 ≤ n by omega)) hw (hO.2 100 (by omega) z' (cd_F_mono hz' (by omega)))
  exact no t ft.1 ot ft.2
theorem cd_boxP {P x w : Int} (h1 : x ≤ 50 * w) (h2 : -x ≤ 50 * w) : (0 ≤ P → P * x ≤ P * 50 * w) ∧ (P ≤ 0 → P * x ≤ P * (-50) * w) := by
  constructor
  · intro h
    have := Int.mul_le_mul_of_nonneg_left h1 h
    rw [Int.mul_assoc]
    exact this
  · intro h
    have t := Int.mul_le_mul_of_nonneg_left h2 (show 0 ≤ -P by omega)
    have e1 : -P * -x = P * x := by grind
    have e2 : -P * (50 * w) = P * (-50) * w := by grind
    rw [e1, e2] at t
    exact t
theorem cd_sgnM {p M : Int} (hM : 100 ≤ M) (r : Int) (hr : 0 ≤ r) (hr' : r ≤ M) (hr0 : 0 < r) : (0 < p → 0 ≤ p * M * M - r) ∧ (p ≤ 0 → p * M * M - r ≤ 0) := by
  have e : p * M * M = M * (M * p) := by grind
  rw [e]
  have hM0 : 0 ≤ M := by omega
  constructor
  · intro h
    have s : M * 1 ≤ M * p := Int.mul_le_mul_of_nonneg_left (by omega) hM0
    have t : M * 1 ≤ M * (M * p) := Int.mul_le_mul_of_nonneg_left (by omega) hM0
    omega
  · intro h
    have s : M * p ≤ M * 0 := Int.mul_le_mul_of_nonneg_left h hM0
    have t : M * (M * p) ≤ M * 0 := Int.mul_le_mul_of_nonneg_left (by omega) hM0
    omega
theorem cd_Opt_init {K : cd_K} {wo : Nat} {p q X Y : Int} (ok : cd_ok K) (hw : 4 ≤ wo) (hX : (0 < p ∧ X = 50) ∨ (p ≤ 0 ∧ X = -50)) (hY : (0 < q ∧ Y = 50) ∨ (q ≤ 0 ∧ Y = -50)) : cd_Opt K 4 wo p q (X, Y, 1) := by
  obtain ⟨_, _, _, o0, o1, o2, o3⟩ := ok
  have s0 : ∀ z : cd_P, cd_S K 0 z ↔ z.1 ≤ 50 * z.2.2 := by
    intro z
    unfold cd_S
    rw [show cd_A K 0 = 1 from congrArg (fun t => t.1) o0, show cd_B K 0 = 0 from congrArg (fun t => t.2.1) o0, show cd_C K 0 = 50 from congrArg (fun t => t.2.2) o0]
    constructor <;> intro h <;> omega
  have s1 : ∀ z : cd_P, cd_S K 1 z ↔ -z.1 ≤ 50 * z.2.2 := by
    intro z
    unfold cd_S
    rw [show cd_A K 1 = -1 from congrArg (fun t => t.1) o1, show cd_B K 1 = 0 from congrArg (fun t => t.2.1) o1, show cd_C K 1 = 50 from congrArg (fun t => t.2.2) o1]
    constructor <;> intro h <;> omega
  have s2 : ∀ z : cd_P, cd_S K 2 z ↔ z.2.1 ≤ 50 * z.2.2 := by
    intro z
    unfold cd_S
    rw [show cd_A K 2 = 0 from congrArg (fun t => t.1) o2, show cd_B K 2 = 1 from congrArg (fun t => t.2.1) o2, show cd_C K 2 = 50 from congrArg (fun t => t.2.2) o2]
    constructor <;> intro h <;> omega
  have s3 : ∀ z : cd_P, cd_S K 3 z ↔ -z.2.1 ≤ 50 * z.2.2 := by
    intro z
    unfold cd_S
    rw [show cd_A K 3 = 0 from congrArg (fun t => t.1) o3, show cd_B K 3 = -1 from congrArg (fun t => t.2.1) o3, show cd_C K 3 = 50 from congrArg (fun t => t.2.2) o3]
    constructor <;> intro h <;> omega
  have bX : X ≤ 50 ∧ -X ≤ 50 := by omega
  have bY : Y ≤ 50 ∧ -Y ≤ 50 := by omega
  refine ⟨⟨by show (0 : Int) < 1; decide, ?_⟩, ?_⟩
  · intro j hj _
    have h5 : j = 0 ∨ j = 1 ∨ j = 2 ∨ j = 3 := by omega
    rcases h5 with e | e | e | e <;> rw [e]
    · exact (s0 _).mpr (by dsimp only; omega)
    · exact (s1 _).mpr (by dsimp only; omega)
    · exact (s2 _).mpr (by dsimp only; omega)
    · exact (s3 _).mpr (by dsimp only; omega)
  · intro M hM z' hz'
    obtain ⟨x, y, w⟩ := z'
    have f0 := (s0 _).mp (hz'.2 0 (by omega) (by omega))
    have f1 := (s1 _).mp (hz'.2 1 (by omega) (by omega))
    have f2 := (s2 _).mp (hz'.2 2 (by omega) (by omega))
    have f3 := (s3 _).mp (hz'.2 3 (by omega) (by omega))
    dsimp only at f0 f1 f2 f3
    unfold cd_v
    dsimp only
    have gp := cd_sgnM (p := p) hM M (by omega) (by omega) (by omega)
    have gq := cd_sgnM (p := q) hM 1 (by omega) (by omega) (by omega)
    generalize p * M * M - M = P at *
    generalize q * M * M - 1 = Q at *
    have hx : P * x ≤ P * X * w := by
      rcases hX with ⟨h, e⟩ | ⟨h, e⟩ <;> rw [e]
      · exact (cd_boxP f0 f1).1 (gp.1 h)
      · exact (cd_boxP f0 f1).2 (gp.2 h)
    have hy : Q * y ≤ Q * Y * w := by
      rcases hY with ⟨h, e⟩ | ⟨h, e⟩ <;> rw [e]
      · exact (cd_boxP f2 f3).1 (gq.1 h)
      · exact (cd_boxP f2 f3).2 (gq.2 h)
    rw [Int.mul_one, Int.add_mul]
    omega
/-- a best point is best for the plain aim -/
theorem cd_lim {D E G : Int} (h : ∀ M : Int, 100 ≤ M → M * (M * D - E) - G ≤ 0) : D ≤ 0 := by
  rcases Int.lt_or_le 0 D with z | z
  · exfalso
    have t := h (100 + E * E + G * G) (by have := cd_sq E; have := cd_sq G; omega)
    have hE : E ≤ E * E := by
      rcases Int.lt_or_le E 1 with e | e
      · have := cd_sq E
        omega
      · have : E * 1 ≤ E * E := Int.mul_le_mul_of_nonneg_left e (by omega)
        omega
    have hG : G ≤ G * G := by
      rcases Int.lt_or_le G 1 with e | e
      · have := cd_sq G
        omega
      · have : G * 1 ≤ G * G := Int.mul_le_mul_of_nonneg_left e (by omega)
        omega
    have q1 := cd_sq E
    have q2 := cd_sq G
    generalize E * E = e2 at *
    generalize G * G = g2 at *
    have s : (100 + e2 + g2) * 1 ≤ (100 + e2 + g2) * D := Int.mul_le_mul_of_nonneg_left (by omega) (by omega)
    have r : (100 + e2 + g2) * 1 ≤ (100 + e2 + g2) * ((100 + e2 + g2) * D - E) := Int.mul_le_mul_of_nonneg_left (by omega) (by omega)
    omega
  · exact z
theorem cd_Opt_lin {K : cd_K} {n wo : Nat} {p q : Int} {z z' : cd_P} (hO : cd_Opt K n wo p q z) (hz' : cd_F K n wo z') : (p * z'.1 + q * z'.2.1) * z.2.2 ≤ (p * z.1 + q * z.2.1) * z'.2.2 := by
  have h : (p * z'.1 + q * z'.2.1) * z.2.2 - (p * z.1 + q * z.2.1) * z'.2.2 ≤ 0 := by
    apply cd_lim (E := z'.1 * z.2.2 - z.1 * z'.2.2) (G := z'.2.1 * z.2.2 - z.2.1 * z'.2.2)
    intro M hM
    have t := hO.2 M hM z' hz'
    unfold cd_v at t
    have e : M * (M * ((p * z'.1 + q * z'.2.1) * z.2.2 - (p * z.1 + q * z.2.1) * z'.2.2) - (z'.1 * z.2.2 - z.1 * z'.2.2)) - (z'.2.1 * z.2.2 - z.2.1 * z'.2.2) = ((p * M * M - M) * z'.1 + (q * M * M - 1) * z'.2.1) * z.2.2 - ((p * M * M - M) * z.1 + (q * M * M - 1) * z.2.1) * z'.2.2 := by grind
    rw [e]
    omega
  omega
end
section
/-! the walk: one lemma a method -/
def cd_R (K : cd_K) (a1 a2 a3 : Nat → Int32) : Prop := ∀ j, j < K.length → a1 j = cd_I (cd_A K j) ∧ a2 j = cd_I (cd_B K j) ∧ a3 j = cd_I (cd_C K j)
def cd_E (o : Option cd_P) (h : Int32) (x y w : Int64) : Prop := match o with
  | none => h = 0
  | some q => h = 1 ∧ x = cd_L q.1 ∧ y = cd_L q.2.1 ∧ w = cd_L q.2.2
theorem cd_I_eq0 {x : Int} (h : cd_b 2000000000 x) : cd_I x = 0 ↔ x = 0 := cd_I_eq (y := 0) h ⟨by decide, by decide⟩
theorem cd_I_le0 {x : Int} (h : cd_b 2000000000 x) : cd_I x ≤ 0 ↔ x ≤ 0 := cd_I_le (y := 0) h ⟨by decide, by decide⟩
theorem cd_I_ge0 {x : Int} (h : cd_b 2000000000 x) : 0 ≤ cd_I x ↔ 0 ≤ x := cd_I_le (x := 0) ⟨by decide, by decide⟩ h
theorem cd_I_gt0 {x : Int} (h : cd_b 2000000000 x) : 0 < cd_I x ↔ 0 < x := cd_I_lt (x := 0) ⟨by decide, by decide⟩ h
theorem cd_T_b {K : cd_K} {k : Nat} {p : cd_P} (hk : cd_sm K k) (hp : cd_pb p) : cd_b 36000 (cd_T K k p) :=
  cd_b_le (cd_b_sub (cd_b_mul hk.1 hp.2.1) (cd_b_mul hk.2.1 hp.1)) (by decide)
theorem cd_w_b {p : cd_P} (hp : cd_pb p) : cd_b 200 p.2.2 := by
  have h1 := hp.2.2.1
  have h2 := hp.2.2.2
  unfold cd_b
  omega
theorem cd_Tw_b {K : cd_K} {k : Nat} {p q : cd_P} (hk : cd_sm K k) (hp : cd_pb p) (hq : cd_pb q) : cd_b 4000000000000000000 (cd_T K k p * q.2.2) :=
  cd_b_le (cd_b_mul (cd_T_b hk hp) (cd_w_b hq)) (by decide)
section
variable {nc lv hl hh rm ap aq : Int32} {x y w lx ly lw hx hy hw bX bY bW : Int64} {a1 a2 a3 a4 : Nat → Int32} {K : cd_K} {k j : Nat}
theorem cd_meets {post : Int32 → Prop} (ok : cd_ok K) (R : cd_R K a1 a2 a3) (hk : k < K.length) {z : cd_P} (hz : cd_pb z) (H0 : ¬ cd_S K k z → post 0) (H1 : cd_S K k z → post 1) :
    wpX_meets post (nc, lv, cd_L z.1, cd_L z.2.1, cd_L z.2.2, hl, hh, lx, ly, lw, hx, hy, hw, rm, bX, bY, bW, ap, aq, a1, a2, a3, a4) (nI k) := by
  have hk' : k < 14 := Nat.lt_of_lt_of_le hk ok.2.1
  obtain ⟨b1, b2, b3, _⟩ := ok.2.2.1 k hk
  obtain ⟨r1, r2, r3⟩ := R k hk
  have z5 := cd_w_b hz
  unfold wpX_meets
  dsimp only
  rw [nI_clamp (show k < 2 ^ 31 by omega), r1, r2, r3, cd_IL (cd_b_le b1 (by decide)), cd_IL (cd_b_le b2 (by decide)), cd_IL (cd_b_le b3 (by decide)), cd_L_mul, cd_L_mul, cd_L_mul, cd_L_add]
  refine ⟨pk_in k 14 hk', pk_in k 14 hk', pk_in k 14 hk', ek_if (cd_L_lt (cd_b_le (cd_b_mul b3 z5) (by decide)) (cd_b_le (cd_b_add (cd_b_mul b1 hz.1) (cd_b_mul b2 hz.2.1)) (by decide))) (fun h => H0 ?_) (fun h => H1 ?_)⟩
  · unfold cd_S
    omega
  · unfold cd_S
    omega
theorem cd_along {post : Int64 → Prop} (ok : cd_ok K) (R : cd_R K a1 a2 a3) (hk : k < K.length) (p : cd_P) (H : post (cd_L (cd_T K k p))) :
    wpX_along post (nc, lv, x, y, w, hl, hh, lx, ly, lw, hx, hy, hw, rm, bX, bY, bW, ap, aq, a1, a2, a3, a4) (nI k) (cd_L p.1) (cd_L p.2.1) := by
  have hk' : k < 14 := Nat.lt_of_lt_of_le hk ok.2.1
  obtain ⟨b1, b2, b3, _⟩ := ok.2.2.1 k hk
  obtain ⟨r1, r2, r3⟩ := R k hk
  unfold wpX_along
  dsimp only
  rw [nI_clamp (show k < 2 ^ 31 by omega), r1, r2, cd_IL (cd_b_le b1 (by decide)), cd_IL (cd_b_le b2 (by decide)), cd_L_mul, cd_L_mul, cd_L_sub]
  exact ⟨pk_in k 14 hk', pk_in k 14 hk', H⟩
theorem cd_cutLow {post : St2 → Prop} (ok : cd_ok K) (R : cd_R K a1 a2 a3) (hk : k < K.length) {o : Option cd_P} (E : cd_E o hl lx ly lw) (ho : ∀ q, o = some q → cd_pb q) (p : cd_P) (hp : cd_pb p)
    (H : ∀ (hl : Int32) (lx ly lw : Int64), cd_E (cd_lo K k o p) hl lx ly lw → post (nc, lv, x, y, w, hl, hh, lx, ly, lw, hx, hy, hw, rm, bX, bY, bW, ap, aq, a1, a2, a3, a4)) :
    wpX_cutLow post (nc, lv, x, y, w, hl, hh, lx, ly, lw, hx, hy, hw, rm, bX, bY, bW, ap, aq, a1, a2, a3, a4) (nI k) (cd_L p.1) (cd_L p.2.1) (cd_L p.2.2) := by
  have hs := ok.2.2.1 k hk
  unfold wpX_cutLow
  dsimp only
  cases o with
  | none => exact br_t E (H 1 (cd_L p.1) (cd_L p.2.1) (cd_L p.2.2) ⟨rfl, rfl, rfl, rfl⟩)
  | some q =>
    obtain ⟨e1, e2, e3, e4⟩ := E
    subst e1 e2 e3 e4
    have hq := ho q rfl
    refine br_f (by decide) (cd_along ok R hk p (cd_along ok R hk q ?_))
    rw [cd_L_mul, cd_L_mul]
    refine ek_if (cd_L_le (cd_Tw_b hs hp hq) (cd_Tw_b hs hq hp)) (fun h => ?_) (fun h => ?_)
    · exact H 1 _ _ _ (by rw [show cd_lo K k (some q) p = some q from if_pos h]; exact ⟨rfl, rfl, rfl, rfl⟩)
    · exact H 1 (cd_L p.1) (cd_L p.2.1) (cd_L p.2.2) (by rw [show cd_lo K k (some q) p = some p from if_neg h]; exact ⟨rfl, rfl, rfl, rfl⟩)
theorem cd_cutHigh {post : St2 → Prop} (ok : cd_ok K) (R : cd_R K a1 a2 a3) (hk : k < K.length) {o : Option cd_P} (E : cd_E o hh hx hy hw) (ho : ∀ q, o = some q → cd_pb q) (p : cd_P) (hp : cd_pb p)
    (H : ∀ (hh : Int32) (hx hy hw : Int64), cd_E (cd_hi K k o p) hh hx hy hw → post (nc, lv, x, y, w, hl, hh, lx, ly, lw, hx, hy, hw, rm, bX, bY, bW, ap, aq, a1, a2, a3, a4)) :
    wpX_cutHigh post (nc, lv, x, y, w, hl, hh, lx, ly, lw, hx, hy, hw, rm, bX, bY, bW, ap, aq, a1, a2, a3, a4) (nI k) (cd_L p.1) (cd_L p.2.1) (cd_L p.2.2) := by
  have hs := ok.2.2.1 k hk
  unfold wpX_cutHigh
  dsimp only
  cases o with
  | none => exact br_t E (H 1 (cd_L p.1) (cd_L p.2.1) (cd_L p.2.2) ⟨rfl, rfl, rfl, rfl⟩)
  | some q =>
    obtain ⟨e1, e2, e3, e4⟩ := E
    subst e1 e2 e3 e4
    have hq := ho q rfl
    refine br_f (by decide) (cd_along ok R hk p (cd_along ok R hk q ?_))
    rw [cd_L_mul, cd_L_mul]
    refine ek_if (cd_L_le (cd_Tw_b hs hq hp) (cd_Tw_b hs hp hq)) (fun h => ?_) (fun h => ?_)
    · exact H 1 _ _ _ (by rw [show cd_hi K k (some q) p = some q from if_pos h]; exact ⟨rfl, rfl, rfl, rfl⟩)
    · exact H 1 (cd_L p.1) (cd_L p.2.1) (cd_L p.2.2) (by rw [show cd_hi K k (some q) p = some p from if_neg h]; exact ⟨rfl, rfl, rfl, rfl⟩)
theorem cd_par49 {post : Int32 → Prop} (ok : cd_ok K) (R : cd_R K a1 a2 a3) (hk : k < K.length) (hj : j < K.length) {own oth : Int} (bo : cd_b 9 own) (bt : cd_b 9 oth)
    (H0 : ¬ ((own ≤ 0 → cd_C K j * own ≤ oth * cd_C K k) ∧ (0 < own → oth * cd_C K k ≤ cd_C K j * own)) → post 0)
    (H1 : ((own ≤ 0 → cd_C K j * own ≤ oth * cd_C K k) ∧ (0 < own → oth * cd_C K k ≤ cd_C K j * own)) → post 1) :
    wX_parallelMeets_49 post (nI k) (nI j) (cd_I own) (cd_I oth) nc lv x y w hl hh lx ly lw hx hy hw rm bX bY bW ap aq a1 a2 a3 a4 := by
  have hk' : k < 14 := Nat.lt_of_lt_of_le hk ok.2.1
  have hj' : j < 14 := Nat.lt_of_lt_of_le hj ok.2.1
  have c1 := (ok.2.2.1 k hk).2.2.1
  have c2 := (ok.2.2.1 j hj).2.2.1
  unfold wX_parallelMeets_49
  rw [nI_clamp (show k < 2 ^ 31 by omega), nI_clamp (show j < 2 ^ 31 by omega), (R k hk).2.2, (R j hj).2.2, cd_I_mul, cd_I_mul]
  have B1 : cd_b 2000000000 (oth * cd_C K k) := cd_b_le (cd_b_mul bt c1) (by decide)
  have B2 : cd_b 2000000000 (cd_C K j * own) := cd_b_le (cd_b_mul c2 bo) (by decide)
  refine ek_if (cd_I_le0 (cd_b_le bo (by decide))) (fun h => ⟨pk_in k 14 hk', pk_in j 14 hj', ek_if (cd_I_lt B1 B2) (fun g => H0 (fun t => ?_)) (fun g => H1 ⟨fun _ => by omega, fun t => absurd t (by omega)⟩)⟩) (fun h => ⟨pk_in k 14 hk', pk_in j 14 hj', ek_if (cd_I_lt B2 B1) (fun g => H0 (fun t => ?_)) (fun g => H1 ⟨fun t => absurd t (by omega), fun _ => by omega⟩)⟩)
  · have := t.1 h
    omega
  · have := t.2 (by omega)
    omega
theorem cd_parM {post : Int32 → Prop} (ok : cd_ok K) (R : cd_R K a1 a2 a3) (hk : k < K.length) (hj : j < K.length) (H0 : ¬ cd_par K k j → post 0) (H1 : cd_par K k j → post 1) :
    wpX_parallelMeets post (nc, lv, x, y, w, hl, hh, lx, ly, lw, hx, hy, hw, rm, bX, bY, bW, ap, aq, a1, a2, a3, a4) (nI k) (nI j) := by
  have hk' : k < 14 := Nat.lt_of_lt_of_le hk ok.2.1
  have hj' : j < 14 := Nat.lt_of_lt_of_le hj ok.2.1
  obtain ⟨b1, b2, b3, _⟩ := ok.2.2.1 k hk
  obtain ⟨d1, d2, d3, _⟩ := ok.2.2.1 j hj
  obtain ⟨r1, r2, r3⟩ := R k hk
  obtain ⟨s1, s2, s3⟩ := R j hj
  unfold wpX_parallelMeets
  dsimp only
  unfold wX_parallelMeets_24
  rw [nI_clamp (show k < 2 ^ 31 by omega), nI_clamp (show j < 2 ^ 31 by omega), r1, r2, s1, s2]
  have e0 := cd_I_eq0 (cd_b_le b1 (show (9 : Int) ≤ 2000000000 by decide))
  refine ⟨pk_in k 14 hk', ek_if e0 (fun h => ⟨pk_in k 14 hk', pk_in k 14 hk', ek_if e0 (fun _ => ⟨pk_in j 14 hj', cd_par49 ok R hk hj b2 d2 (fun t => H0 (fun u => t (u.1 h))) (fun t => H1 ⟨fun _ => t, fun g => absurd h g⟩)⟩) (fun g => absurd h g)⟩) (fun h => ⟨pk_in k 14 hk', pk_in k 14 hk', ek_if e0 (fun g => absurd g h) (fun _ => ⟨pk_in j 14 hj', cd_par49 ok R hk hj b1 d1 (fun t => H0 (fun u => t (u.2 h))) (fun t => H1 ⟨fun g => absurd g h, fun _ => t⟩)⟩)⟩)⟩
theorem cd_cutStretch {post : Int32 → St2 → Prop} (ok : cd_ok K) (R : cd_R K a1 a2 a3) (hk : k < K.length) (hj : j < K.length) {lo hi : Option cd_P} (EL : cd_E lo hl lx ly lw) (EH : cd_E hi hh hx hy hw) (gl : ∀ q, lo = some q → cd_pb q) (gh : ∀ q, hi = some q → cd_pb q)
    (H0 : cd_tn K k j = 0 → ¬ cd_par K k j → post 0 (nc, lv, x, y, w, hl, hh, lx, ly, lw, hx, hy, hw, rm, bX, bY, bW, ap, aq, a1, a2, a3, a4))
    (H1 : cd_tn K k j = 0 → cd_par K k j → post 1 (nc, lv, x, y, w, hl, hh, lx, ly, lw, hx, hy, hw, rm, bX, bY, bW, ap, aq, a1, a2, a3, a4))
    (H2 : 0 < cd_tn K k j → ∀ (hh : Int32) (hx hy hw : Int64), cd_E (cd_hi K k hi (cd_X K k j)) hh hx hy hw → post 1 (nc, lv, x, y, w, hl, hh, lx, ly, lw, hx, hy, hw, rm, bX, bY, bW, ap, aq, a1, a2, a3, a4))
    (H3 : cd_tn K k j < 0 → ∀ (hl : Int32) (lx ly lw : Int64), cd_E (cd_lo K k lo (cd_Y K k j)) hl lx ly lw → post 1 (nc, lv, x, y, w, hl, hh, lx, ly, lw, hx, hy, hw, rm, bX, bY, bW, ap, aq, a1, a2, a3, a4)) :
    wpX_cutStretch post (nc, lv, x, y, w, hl, hh, lx, ly, lw, hx, hy, hw, rm, bX, bY, bW, ap, aq, a1, a2, a3, a4) (nI k) (nI j) := by
  have hk' : k < 14 := Nat.lt_of_lt_of_le hk ok.2.1
  have hj' : j < 14 := Nat.lt_of_lt_of_le hj ok.2.1
  have sk := ok.2.2.1 k hk
  have sj := ok.2.2.1 j hj
  obtain ⟨r1, r2, r3⟩ := R k hk
  obtain ⟨s1, s2, s3⟩ := R j hj
  obtain ⟨x1, x2, x3⟩ := cd_X_b sk sj
  have bt : cd_b 2000000000 (cd_tn K k j) := cd_b_le x3 (by decide)
  have et : cd_I (cd_A K k) * cd_I (cd_B K j) - cd_I (cd_A K j) * cd_I (cd_B K k) = cd_I (cd_tn K k j) := by
    rw [cd_I_mul, cd_I_mul, cd_I_sub]
    rfl
  have ex : (cd_I (cd_C K k) * cd_I (cd_B K j) - cd_I (cd_C K j) * cd_I (cd_B K k)).toInt64 = cd_L (cd_C K k * cd_B K j - cd_C K j * cd_B K k) := by
    rw [cd_I_mul, cd_I_mul, cd_I_sub]
    exact cd_IL (cd_b_le x1 (by decide))
  have ey : (cd_I (cd_A K k) * cd_I (cd_C K j) - cd_I (cd_A K j) * cd_I (cd_C K k)).toInt64 = cd_L (cd_A K k * cd_C K j - cd_A K j * cd_C K k) := by
    rw [cd_I_mul, cd_I_mul, cd_I_sub]
    exact cd_IL (cd_b_le x2 (by decide))
  have ik : vp_in (nI k) 14 := pk_in k 14 hk'
  have ij : vp_in (nI j) 14 := pk_in j 14 hj'
  unfold wpX_cutStretch
  dsimp only
  rw [nI_clamp (show k < 2 ^ 31 by omega), nI_clamp (show j < 2 ^ 31 by omega), r1, r2, r3, s1, s2, s3]
  refine ⟨ik, ij, ij, ik, nm_r et (ek_if (cd_I_eq0 bt) (fun h => cd_parM ok R hk hj (fun g => ⟨rfl, H0 h g⟩) (fun g => ⟨rfl, H1 h g⟩)) (fun h => ⟨ik, ij, ij, ik, nm_r ex ⟨ik, ij, ij, ik, nm_r ey (ek_if (cd_I_le0 bt) (fun g => ?_) (fun g => ?_))⟩⟩))⟩
  · have ht : cd_tn K k j < 0 := by omega
    rw [cd_L_neg, cd_L_neg, cd_I_neg, cd_IL (cd_b_neg bt)]
    exact cd_cutLow ok R hk EL gl (cd_Y K k j) (cd_Y_pb sk sj ht) (fun hl lx ly lw E => H3 ht hl lx ly lw E)
  · have ht : 0 < cd_tn K k j := by omega
    rw [cd_IL bt]
    exact cd_cutHigh ok R hk EH gh (cd_X K k j) (cd_X_pb sk sj ht) (fun hh hx hy hw E => H2 ht hh hx hy hw E)
theorem cd_146 {post : Int32 → St2 → Prop} (H : post 1 (nc, lv, hx, hy, hw, hl, hh, lx, ly, lw, hx, hy, hw, rm, bX, bY, bW, ap, aq, a1, a2, a3, a4)) : wX_moveOnto_146 post nc lv x y w hl hh lx ly lw hx hy hw rm bX bY bW ap aq a1 a2 a3 a4 :=
  br_f (by decide) (br_f (by decide) (br_f (by decide) H))
theorem cd_150 {post : Int32 → St2 → Prop} (H : post 1 (nc, lv, lx, ly, lw, hl, hh, lx, ly, lw, hx, hy, hw, rm, bX, bY, bW, ap, aq, a1, a2, a3, a4)) : wX_moveOnto_150 post nc lv x y w hl hh lx ly lw hx hy hw rm bX bY bW ap aq a1 a2 a3 a4 :=
  br_t rfl (br_t rfl (br_t rfl H))
end
end
section
section
variable {nc lv hl hh rm ap aq wv : Int32} {x y w lx ly lw hx hy hw bX bY bW : Int64} {a1 a2 a3 a4 : Nat → Int32} {K : cd_K} {k wo : Nat} {p q : Int}
theorem cd_moveEnd {post : Int32 → St2 → Prop} (ok : cd_ok K) (R : cd_R K a1 a2 a3) (hk : k < K.length) (bp : cd_b 9 p) (bq : cd_b 9 q) (n : Nat) {l h : cd_P} (m : cd_M K k wo k (some l) (some h))
    (H0 : cd_nol K k k wo → ∀ (hl hh : Int32) (lx ly lw hx hy hw : Int64), post 0 (nc, lv, x, y, w, hl, hh, lx, ly, lw, hx, hy, hw, rm, bX, bY, bW, ap, aq, a1, a2, a3, a4))
    (H1 : cd_T K k l * h.2.2 ≤ cd_T K k h * l.2.2 → ∀ (hl hh : Int32) (lx ly lw hx hy hw : Int64), (cd_up (cd_A K k) (cd_B K k) p q → post 1 (nc, lv, cd_L h.1, cd_L h.2.1, cd_L h.2.2, hl, hh, lx, ly, lw, hx, hy, hw, rm, bX, bY, bW, ap, aq, a1, a2, a3, a4)) ∧ (¬ cd_up (cd_A K k) (cd_B K k) p q → post 1 (nc, lv, cd_L l.1, cd_L l.2.1, cd_L l.2.2, hl, hh, lx, ly, lw, hx, hy, hw, rm, bX, bY, bW, ap, aq, a1, a2, a3, a4))) :
    wX_moveOnto_13 post (nI k) (cd_I p) (cd_I q) wv (n + 1) (nI k) nc lv x y w hl hh (cd_L l.1) (cd_L l.2.1) (cd_L l.2.2) (cd_L h.1) (cd_L h.2.1) (cd_L h.2.2) rm bX bY bW ap aq a1 a2 a3 a4 := by
  have hk' : k < 14 := Nat.lt_of_lt_of_le hk ok.2.1
  have sk := ok.2.2.1 k hk
  obtain ⟨r1, r2, r3⟩ := R k hk
  have pl := (m.2.1 l rfl).2
  have ph := (m.2.2.1 h rfl).2
  have ik : vp_in (nI k) 14 := pk_in k 14 hk'
  have bG : cd_b 2000000000 (q * cd_A K k - p * cd_B K k) := cd_b_le (cd_b_sub (cd_b_mul bq sk.1) (cd_b_mul bp sk.2.1)) (by decide)
  have bA : cd_b 2000000000 (cd_A K k) := cd_b_le sk.1 (by decide)
  have bB : cd_b 2000000000 (cd_B K k) := cd_b_le sk.2.1 (by decide)
  have eG : cd_I q * cd_I (cd_A K k) - cd_I p * cd_I (cd_B K k) = cd_I (q * cd_A K k - p * cd_B K k) := by
    rw [cd_I_mul, cd_I_mul, cd_I_sub]
  refine pk_le k k (fun _ => cd_along ok R hk l (cd_along ok R hk h ?_)) (fun z => absurd z (by omega))
  rw [nI_clamp (show k < 2 ^ 31 by omega), r1, r2, cd_L_mul, cd_L_mul]
  refine ek_if (cd_L_le (cd_Tw_b sk pl ph) (cd_Tw_b sk ph pl)) (fun c => ?_) (fun c => H0 (cd_nol_lh m c) _ _ _ _ _ _ _ _)
  have H := H1 c hl hh (cd_L l.1) (cd_L l.2.1) (cd_L l.2.2) (cd_L h.1) (cd_L h.2.1) (cd_L h.2.2)
  refine ⟨ik, ik, nm_r eG (ek_if (cd_I_gt0 bG) (fun g => cd_146 (H.1 (Or.inl g))) (fun g => ek_if (cd_I_eq0 bG) (fun g0 => ⟨ik, ek_if (cd_I_gt0 bB) (fun b => cd_146 (H.1 (Or.inr ⟨g0, Or.inl b⟩))) (fun b => ⟨ik, ek_if (cd_I_eq0 bB) (fun b0 => ⟨ik, ek_if (cd_I_ge0 bA) (fun a => cd_150 (H.2 (fun u => ?_))) (fun a => cd_146 (H.1 (Or.inr ⟨g0, Or.inr ⟨b0, by omega⟩⟩)))⟩) (fun b0 => cd_150 (H.2 (fun u => ?_)))⟩)⟩) (fun g0 => cd_150 (H.2 (fun u => ?_)))))⟩
  · unfold cd_up at u
    omega
  · unfold cd_up at u
    omega
  · unfold cd_up at u
    omega
theorem cd_moveOnto {post : Int32 → St2 → Prop} (ok : cd_ok K) (R : cd_R K a1 a2 a3) (hk : k < K.length) (h4 : 4 ≤ k) (gw : 4 ≤ wo) (hwo : ∀ j, j < 14 → (nI j = wv ↔ j = wo)) (bp : cd_b 9 p) (bq : cd_b 9 q)
    (H0 : cd_nol K k k wo → ∀ (hl hh : Int32) (lx ly lw hx hy hw : Int64), post 0 (nc, lv, x, y, w, hl, hh, lx, ly, lw, hx, hy, hw, rm, bX, bY, bW, ap, aq, a1, a2, a3, a4))
    (H1 : ∀ l h, cd_M K k wo k (some l) (some h) → cd_T K k l * h.2.2 ≤ cd_T K k h * l.2.2 → ∀ (hl hh : Int32) (lx ly lw hx hy hw : Int64), (cd_up (cd_A K k) (cd_B K k) p q → post 1 (nc, lv, cd_L h.1, cd_L h.2.1, cd_L h.2.2, hl, hh, lx, ly, lw, hx, hy, hw, rm, bX, bY, bW, ap, aq, a1, a2, a3, a4)) ∧ (¬ cd_up (cd_A K k) (cd_B K k) p q → post 1 (nc, lv, cd_L l.1, cd_L l.2.1, cd_L l.2.2, hl, hh, lx, ly, lw, hx, hy, hw, rm, bX, bY, bW, ap, aq, a1, a2, a3, a4))) :
    wpX_moveOnto post (nc, lv, x, y, w, hl, hh, lx, ly, lw, hx, hy, hw, rm, bX, bY, bW, ap, aq, a1, a2, a3, a4) (nI k) (cd_I p) (cd_I q) wv := by
  have hk' : k < 14 := Nat.lt_of_lt_of_le hk ok.2.1
  have sk := ok.2.2.1 k hk
  unfold wpX_moveOnto
  dsimp only
  refine pk_loop (fun n i (s : Int32 × Int32 × Int64 × Int64 × Int64 × Int64 × Int64 × Int64) => wX_moveOnto_13 post (nI k) (cd_I p) (cd_I q) wv n (nI i) nc lv x y w s.1 s.2.1 s.2.2.1 s.2.2.2.1 s.2.2.2.2.1 s.2.2.2.2.2.1 s.2.2.2.2.2.2.1 s.2.2.2.2.2.2.2 rm bX bY bW ap aq a1 a2 a3 a4)
    (fun i s => ∃ lo hi, cd_M K k wo i lo hi ∧ cd_E lo s.1 s.2.2.1 s.2.2.2.1 s.2.2.2.2.1 ∧ cd_E hi s.2.1 s.2.2.2.2.2.1 s.2.2.2.2.2.2.1 s.2.2.2.2.2.2.2) k 0 (0, 0, lx, ly, lw, hx, hy, hw) (by omega) ⟨none, none, cd_M_0 K k wo, rfl, rfl⟩ ?_ ?_
  · rintro n ⟨hl, hh, lx, ly, lw, hx, hy, hw⟩ ⟨lo, hi, m, EL, EH⟩
    dsimp only at EL EH ⊢
    obtain ⟨l, h, e1, e2⟩ := cd_M_full ok sk h4 gw m
    subst e1 e2
    obtain ⟨f1, f2, f3, f4⟩ := EL
    obtain ⟨g1, g2, g3, g4⟩ := EH
    subst f1 f2 f3 f4 g1 g2 g3 g4
    exact cd_moveEnd ok R hk bp bq n m H0 (H1 l h m)
  · rintro n i ⟨hl, hh, lx, ly, lw, hx, hy, hw⟩ hi ⟨lo, hi', m, EL, EH⟩ W
    dsimp only at EL EH ⊢
    have si := ok.2.2.1 i (by omega)
    refine pk_le k i (fun z => absurd z (by omega)) (fun _ => ek_if (hwo i (by omega)) (fun e => nm_r (nI_1 i) (W (hl, hh, lx, ly, lw, hx, hy, hw) ⟨lo, hi', cd_M_skip m e, EL, EH⟩)) (fun e => ?_))
    refine cd_cutStretch ok R hk (show i < K.length by omega) EL EH (fun q t => (m.2.1 q t).2) (fun q t => (m.2.2.1 q t).2) (fun ht hp => ?_) (fun ht hp => ?_) (fun ht hh hx hy hw E => ?_) (fun ht hl lx ly lw E => ?_)
    · exact br_t rfl (H0 (cd_nol_par hi e sk ht hp) _ _ _ _ _ _ _ _)
    · exact br_f (by decide) (nm_r (nI_1 i) (W (hl, hh, lx, ly, lw, hx, hy, hw) ⟨lo, hi', cd_M_par m e sk ht hp, EL, EH⟩))
    · exact br_f (by decide) (nm_r (nI_1 i) (W (hl, hh, lx, ly, lw, hx, hy, hw) ⟨lo, _, cd_M_hi m e sk si ht, EL, E⟩))
    · exact br_f (by decide) (nm_r (nI_1 i) (W (hl, hh, lx, ly, lw, hx, hy, hw) ⟨_, hi', cd_M_lo m e sk si ht, E, EH⟩))
theorem cd_solveLoop {post : Int32 → St2 → Prop} (ok : cd_ok K) (R : cd_R K a1 a2 a3) (gw : 4 ≤ wo) (hwo : ∀ j, j < 14 → (nI j = wv ↔ j = wo)) (bp : cd_b 9 p) (bq : cd_b 9 q) {z : cd_P} (pz : cd_pb z) (oz : cd_Opt K 4 wo p q z)
    (H0 : (∀ z, ¬ cd_F K K.length wo z) → ∀ (hl hh : Int32) (x y w lx ly lw hx hy hw : Int64), post 0 (nI K.length, lv, x, y, w, hl, hh, lx, ly, lw, hx, hy, hw, rm, bX, bY, bW, ap, aq, a1, a2, a3, a4))
    (H1 : ∀ z, cd_pb z → cd_Opt K K.length wo p q z → ∀ (hl hh : Int32) (lx ly lw hx hy hw : Int64), post 1 (nI K.length, lv, cd_L z.1, cd_L z.2.1, cd_L z.2.2, hl, hh, lx, ly, lw, hx, hy, hw, rm, bX, bY, bW, ap, aq, a1, a2, a3, a4)) :
    ∃ fu, wX_solve_42 post (cd_I p) (cd_I q) wv fu 4 (nI K.length) lv (cd_L z.1) (cd_L z.2.1) (cd_L z.2.2) hl hh lx ly lw hx hy hw rm bX bY bW ap aq a1 a2 a3 a4 := by
  have hn : K.length ≤ 14 := ok.2.1
  refine pk_loop (fun n i (s : Int64 × Int64 × Int64 × Int32 × Int32 × Int64 × Int64 × Int64 × Int64 × Int64 × Int64) => wX_solve_42 post (cd_I p) (cd_I q) wv n (nI i) (nI K.length) lv s.1 s.2.1 s.2.2.1 s.2.2.2.1 s.2.2.2.2.1 s.2.2.2.2.2.1 s.2.2.2.2.2.2.1 s.2.2.2.2.2.2.2.1 s.2.2.2.2.2.2.2.2.1 s.2.2.2.2.2.2.2.2.2.1 s.2.2.2.2.2.2.2.2.2.2 rm bX bY bW ap aq a1 a2 a3 a4)
    (fun i s => ∃ z, cd_pb z ∧ cd_Opt K i wo p q z ∧ s.1 = cd_L z.1 ∧ s.2.1 = cd_L z.2.1 ∧ s.2.2.1 = cd_L z.2.2 ∧ 4 ≤ i) K.length 4 (cd_L z.1, cd_L z.2.1, cd_L z.2.2, hl, hh, lx, ly, lw, hx, hy, hw) ok.1 ⟨z, pz, oz, rfl, rfl, rfl, Nat.le_refl 4⟩ ?_ ?_
  · rintro n ⟨x, y, w, hl, hh, lx, ly, lw, hx, hy, hw⟩ ⟨z, pz, oz, e1, e2, e3, _⟩
    dsimp only at e1 e2 e3 ⊢
    subst e1 e2 e3
    exact pk_le K.length K.length (fun _ => H1 z pz oz _ _ _ _ _ _ _ _) (fun t => absurd t (by omega))
  · rintro n i ⟨x, y, w, hl, hh, lx, ly, lw, hx, hy, hw⟩ hi ⟨z, pz, oz, e1, e2, e3, i4⟩ W
    dsimp only at e1 e2 e3 ⊢
    subst e1 e2 e3
    refine pk_le K.length i (fun t => absurd t (by omega)) (fun _ => ek_if (hwo i (by omega)) (fun e => nm_r (nI_1 i) (W (cd_L z.1, cd_L z.2.1, cd_L z.2.2, hl, hh, lx, ly, lw, hx, hy, hw) ⟨z, pz, cd_Opt_skip oz e, rfl, rfl, rfl, by omega⟩)) (fun e => ?_))
    refine cd_meets ok R hi pz (fun ns => br_t rfl ?_) (fun s => br_f (by decide) (nm_r (nI_1 i) (W (cd_L z.1, cd_L z.2.1, cd_L z.2.2, hl, hh, lx, ly, lw, hx, hy, hw) ⟨z, pz, cd_Opt_meets oz e s, rfl, rfl, rfl, by omega⟩)))
    refine cd_moveOnto ok R hi i4 gw hwo bp bq (fun no hl hh lx ly lw hx hy hw => br_t rfl (H0 (cd_inf oz ns e hi no) _ _ _ _ _ _ _ _ _ _ _)) (fun l h m c hl hh lx ly lw hx hy hw => ⟨fun u => ?_, fun u => ?_⟩)
    · exact br_f (by decide) (nm_r (nI_1 i) (W (cd_L h.1, cd_L h.2.1, cd_L h.2.2, hl, hh, lx, ly, lw, hx, hy, hw) ⟨h, (m.2.2.1 h rfl).2, (cd_Opt_move (ok.2.2.1 i hi) oz ns e m c).1 u, rfl, rfl, rfl, by omega⟩))
    · exact br_f (by decide) (nm_r (nI_1 i) (W (cd_L l.1, cd_L l.2.1, cd_L l.2.2, hl, hh, lx, ly, lw, hx, hy, hw) ⟨l, (m.2.1 l rfl).2, (cd_Opt_move (ok.2.2.1 i hi) oz ns e m c).2 u, rfl, rfl, rfl, by omega⟩))
theorem cd_pb50 {X Y : Int} (hX : X = 50 ∨ X = -50) (hY : Y = 50 ∨ Y = -50) : cd_pb (X, Y, 1) := by
  unfold cd_pb cd_b
  dsimp only
  omega
theorem cd_solve {post : Int32 → St2 → Prop} {pv qv : Int32} (ok : cd_ok K) (R : cd_R K a1 a2 a3) (gw : 4 ≤ wo) (hwo : ∀ j, j < 14 → (nI j = wv ↔ j = wo)) (ep : pv = cd_I p) (eq : qv = cd_I q) (bp : cd_b 9 p) (bq : cd_b 9 q)
    (H0 : (∀ z, ¬ cd_F K K.length wo z) → ∀ (hl hh : Int32) (x y w lx ly lw hx hy hw : Int64), post 0 (nI K.length, lv, x, y, w, hl, hh, lx, ly, lw, hx, hy, hw, rm, bX, bY, bW, ap, aq, a1, a2, a3, a4))
    (H1 : ∀ z, cd_pb z → cd_Opt K K.length wo p q z → ∀ (hl hh : Int32) (lx ly lw hx hy hw : Int64), post 1 (nI K.length, lv, cd_L z.1, cd_L z.2.1, cd_L z.2.2, hl, hh, lx, ly, lw, hx, hy, hw, rm, bX, bY, bW, ap, aq, a1, a2, a3, a4)) :
    wpX_solve post (nI K.length, lv, x, y, w, hl, hh, lx, ly, lw, hx, hy, hw, rm, bX, bY, bW, ap, aq, a1, a2, a3, a4) pv qv wv := by
  subst ep eq
  have main : ∀ X Y : Int, ((0 < p ∧ X = 50) ∨ (p ≤ 0 ∧ X = -50)) → ((0 < q ∧ Y = 50) ∨ (q ≤ 0 ∧ Y = -50)) → ∃ fu, wX_solve_42 post (cd_I p) (cd_I q) wv fu 4 (nI K.length) lv (cd_L X) (cd_L Y) (cd_L 1) hl hh lx ly lw hx hy hw rm bX bY bW ap aq a1 a2 a3 a4 := by
    intro X Y hX hY
    exact cd_solveLoop (z := (X, Y, 1)) ok R gw hwo bp bq (cd_pb50 (by omega) (by omega)) (cd_Opt_init ok gw hX hY) H0 H1
  have b1 : cd_b 2000000000 p := cd_b_le bp (by decide)
  have b2 : cd_b 2000000000 q := cd_b_le bq (by decide)
  unfold wpX_solve
  dsimp only
  unfold wX_solve_14
  exact ek_if (cd_I_le0 b1) (fun h => ek_if (cd_I_le0 b2) (fun g => main (-50) (-50) (Or.inr ⟨h, rfl⟩) (Or.inr ⟨g, rfl⟩)) (fun g => main (-50) 50 (Or.inr ⟨h, rfl⟩) (Or.inl ⟨by omega, rfl⟩))) (fun h => ek_if (cd_I_le0 b2) (fun g => main 50 (-50) (Or.inl ⟨by omega, rfl⟩) (Or.inr ⟨g, rfl⟩)) (fun g => main 50 50 (Or.inl ⟨by omega, rfl⟩) (Or.inl ⟨by omega, rfl⟩)))
end
end
section
/-! the two loops for the greatest common divisor, and what a fraction in lowest terms is -/
theorem cd_gcd_step (u v : Nat) : Nat.gcd v (u % v) = Nat.gcd u v := by
  rw [Nat.gcd_comm v (u % v), ← Nat.gcd_rec v u, Nat.gcd_comm]
theorem cd_gcdL {post : Int32 → Prop} {m d : Nat} (hm : m < 2 ^ 30) (hd : d ≤ 8) (H : post (nI (Nat.gcd m d))) : wpL_divisor post () (nI m) (nI d) := by
  refine br_t (nI_pos' (by omega)) ?_
  refine pk_loop (fun n i (s : Nat × Nat) => wL_divisor_16 post n (nI s.1) (nI s.2) (nI i)) (fun i s => Nat.gcd s.1 s.2 = Nat.gcd m d ∧ s.1 < 2 ^ 30 ∧ s.2 ≤ 8 - i) 8 0 (m, d) (by omega) ⟨rfl, hm, hd⟩ ?_ ?_
  · rintro n ⟨u, v⟩ ⟨h1, h2, h3⟩
    dsimp only at h1 h2 h3 ⊢
    have hv : v = 0 := by omega
    rw [hv, Nat.gcd_zero_right] at h1
    refine pk_le 8 8 (fun _ => ?_) (fun z => absurd z (by omega))
    rw [h1]
    exact H
  · rintro n i ⟨u, v⟩ hi ⟨h1, h2, h3⟩ W
    dsimp only at h1 h2 h3 ⊢
    refine pk_le 8 i (fun z => absurd z (by omega)) (fun _ => pk_le v 0 (fun z => nm_r (nI_1 i) (W (u, v) ⟨h1, h2, by dsimp only; omega⟩)) (fun z => ⟨nI_ne0 z (by omega), nm_r (pk_rem (show u < 2 ^ 31 by omega) z (by omega)) (nm_r (nI_1 i) (W (v, u % v) ⟨?_, ?_, ?_⟩))⟩))
    · rw [← h1]
      exact cd_gcd_step u v
    · dsimp only
      omega
    · dsimp only
      have := Nat.mod_lt u z
      omega
theorem cd_gcdX {post : Int64 → Prop} : ∀ (m u v i : Nat), u ≤ v → u * v < 2 ^ m → i + m ≤ 64 → v < 2 ^ 62 → post (lN (Nat.gcd u v)) → ∃ n, wX_divisor_20 post n (lN u) (lN v) (nI i) := by
  intro m
  induction m with
  | zero =>
    intro u v i huv hp hi hv H
    have hu : u = 0 := by
      rcases Nat.eq_zero_or_pos u with z | z
      · exact z
      · have := Nat.mul_pos z (show 0 < v by omega)
        omega
    rw [hu, Nat.gcd_zero_left] at H
    rw [hu]
    exact ⟨1, pk_le 64 i (fun _ => H) (fun _ => br_t (by decide) H)⟩
  | succ m ih =>
    intro u v i huv hp hi hv H
    rcases Nat.eq_zero_or_pos u with z | z
    · rw [z, Nat.gcd_zero_left] at H
      rw [z]
      exact ⟨1, pk_le 64 i (fun _ => H) (fun _ => br_t (by decide) H)⟩
    · have hr := Nat.mod_lt v z
      have hq := Nat.div_add_mod v u
      have hd : 1 ≤ v / u := Nat.div_pos huv z
      have h1 : u * 1 ≤ u * (v / u) := Nat.mul_le_mul_left u hd
      have h2 : 2 * (v % u) ≤ v := by omega
      have h3 : u * (2 * (v % u)) ≤ u * v := Nat.mul_le_mul_left u h2
      have h4 : u * (2 * (v % u)) = 2 * (v % u * u) := by
        rw [Nat.mul_left_comm, Nat.mul_comm u (v % u)]
      have h5 : 2 ^ (m + 1) = 2 * 2 ^ m := by
        rw [Nat.pow_succ, Nat.mul_comm]
      obtain ⟨n, hn⟩ := ih (v % u) u (i + 1) (by omega) (by omega) (by omega) (by omega) (by rw [← Nat.gcd_rec]; exact H)
      have hz : ¬ lN u ≤ 0 := fun t => absurd ((pk_lLE (a := u) (b := 0) (by omega) (by omega)).mp t) (by omega)
      have hz' : ¬ lN u = 0 := fun t => absurd ((pk_lEQ (a := u) (b := 0) (by omega) (by omega)).mp t) (by omega)
      exact ⟨n + 1, pk_le 64 i (fun t => absurd t (by omega)) (fun _ => br_f hz ⟨hz', nm_r (pk_lRem (show v < 2 ^ 63 by omega) z (by omega)) (nm_r (nI_1 i) hn)⟩)⟩
theorem cd_div {post : Int64 → Prop} {u v : Nat} (hu : u < 2 ^ 20) (hv : v < 2 ^ 20) (H : post (lN (Nat.gcd u v))) : wpX_divisor post () (lN u) (lN v) := by
  have hb : u * v < 2 ^ 62 := by
    have := Nat.mul_le_mul (show u ≤ 2 ^ 20 by omega) (show v ≤ 2 ^ 20 by omega)
    omega
  have h0 : (0 : Int64) ≤ lN u := (pk_lLE (a := 0) (b := u) (by omega) (by omega)).mpr (by omega)
  refine br_t h0 ?_
  by_cases huv : u ≤ v
  · exact cd_gcdX 62 u v 0 huv hb (by omega) (by omega) H
  · have z : 0 < u := by omega
    obtain ⟨n, hn⟩ := cd_gcdX (post := post) 62 (v % u) u 1 (Nat.le_of_lt (Nat.mod_lt v z)) (by rw [Nat.mod_eq_of_lt (show v < u by omega), Nat.mul_comm]; exact hb) (by omega) (by omega) (by rw [← Nat.gcd_rec]; exact H)
    have hz : ¬ lN u ≤ 0 := fun t => absurd ((pk_lLE (a := u) (b := 0) (by omega) (by omega)).mp t) (by omega)
    have hz' : ¬ lN u = 0 := fun t => absurd ((pk_lEQ (a := u) (b := 0) (by omega) (by omega)).mp t) (by omega)
    exact ⟨n + 1, pk_le 64 0 (fun t => absurd t (by omega)) (fun _ => br_f hz ⟨hz', nm_r (pk_lRem (show v < 2 ^ 63 by omega) z (by omega)) (nm_r (nI_1 0) hn)⟩)⟩
theorem cd_frac {v W m d : Nat} (h : v * d = m * W) (hd : 0 < d) (hW : 0 < W) : v / Nat.gcd v W = m / Nat.gcd m d ∧ W / Nat.gcd v W = d / Nat.gcd m d := by
  have g0 : 0 < Nat.gcd v W := Nat.gcd_pos_of_pos_right v hW
  have h0 : 0 < Nat.gcd m d := Nat.gcd_pos_of_pos_right m hd
  have e1 : v * Nat.gcd m d = m * Nat.gcd v W := by
    rw [← Nat.gcd_mul_left, ← Nat.gcd_mul_left, h, Nat.mul_comm v m]
  have e2 : W * Nat.gcd m d = d * Nat.gcd v W := by
    rw [← Nat.gcd_mul_left, ← Nat.gcd_mul_left, Nat.mul_comm W m, ← h, Nat.mul_comm v d, Nat.mul_comm W d]
  have d1 := Nat.div_mul_cancel (Nat.gcd_dvd_left v W)
  have d2 := Nat.div_mul_cancel (Nat.gcd_dvd_right v W)
  generalize Nat.gcd v W = g at *
  generalize Nat.gcd m d = k at *
  constructor
  · have : v / g * k = m := by
      apply Nat.eq_of_mul_eq_mul_right g0
      rw [← e1, Nat.mul_right_comm, d1]
    rw [← this, Nat.mul_div_cancel _ h0]
  · have : W / g * k = d := by
      apply Nat.eq_of_mul_eq_mul_right g0
      rw [← e2, Nat.mul_right_comm, d2]
    rw [← this, Nat.mul_div_cancel _ h0]
end
section
def cd_val (z : cd_P) (p q : Int) (i : Nat) : Int := if i = 1 then z.1 else if i = 2 then z.2.1 else p * z.1 + q * z.2.1
section
variable {nc lv hl hh rm ap aq : Int32} {x y w lx ly lw hx hy hw bX bY bW : Int64} {a1 a2 a3 a4 : Nat → Int32} {K : cd_K} {p q : Int} {z : cd_P} {pv qv : Int32}
theorem cd_m1 : ∀ j, j < 14 → (nI j = -1 ↔ j = 100) := by decide
theorem cd_upper {post : Int64 → Prop} (bp : cd_b 9 p) (bq : cd_b 9 q) {i : Nat} (hi : i ≤ 2) (H : post (cd_L (cd_val z p q i))) :
    wpX_upper post (nc, lv, x, y, w, hl, hh, lx, ly, lw, hx, hy, hw, rm, cd_L z.1, cd_L z.2.1, cd_L z.2.2, cd_I p, cd_I q, a1, a2, a3, a4) (nI i) := by
  unfold wpX_upper
  dsimp only
  have h : i = 0 ∨ i = 1 ∨ i = 2 := by omega
  rcases h with e | e | e <;> subst e
  · refine br_f (by decide) (br_f (by decide) ?_)
    rw [cd_IL (cd_b_le bp (by decide)), cd_IL (cd_b_le bq (by decide)), cd_L_mul, cd_L_mul, cd_L_add]
    exact H
  · exact br_t rfl H
  · exact br_f (by decide) (br_t rfl H)
theorem cd_val_b (pz : cd_pb z) (bp : cd_b 9 p) (bq : cd_b 9 q) (i : Nat) : cd_b 36000 (cd_val z p q i) := by
  unfold cd_val
  split
  · exact cd_b_le pz.1 (by decide)
  · split
    · exact cd_b_le pz.2.1 (by decide)
    · exact cd_b_le (cd_b_add (cd_b_mul bp pz.1) (cd_b_mul bq pz.2.1)) (by decide)
theorem cd_nat {V w : Int} {m d : Nat} (hd : 0 < d) (hw : 0 < w) (h : V * d = m * w) (hb : cd_b 36000 V) (hw2 : w ≤ 200) : ∃ v W : Nat, V = v ∧ w = W ∧ v < 2 ^ 20 ∧ W < 2 ^ 20 ∧ 0 < W ∧ v * d = m * W := by
  have hV : 0 ≤ V := by
    rcases Int.lt_or_le V 0 with t | t
    · have h1 : V * d < 0 := Int.mul_neg_of_neg_of_pos t (by omega)
      have h2 : 0 ≤ (m : Int) * w := Int.mul_nonneg (by omega) (by omega)
      omega
    · exact t
  unfold cd_b at hb
  refine ⟨V.toNat, w.toNat, by omega, by omega, by omega, by omega, by omega, ?_⟩
  apply Int.ofNat_inj.mp
  rw [Int.natCast_mul, Int.natCast_mul, show ((V.toNat : Nat) : Int) = V by omega, show ((w.toNat : Nat) : Int) = w by omega]
  exact h
theorem cd_num {post : Int32 → Prop} (pz : cd_pb z) (bp : cd_b 9 p) (bq : cd_b 9 q) {i m d : Nat} (hi : i ≤ 2) (hd : 0 < d) (hv : cd_val z p q i * d = m * z.2.2) (H : post (nI (m / Nat.gcd m d))) :
    wpX_numerator post (nc, lv, x, y, w, hl, hh, lx, ly, lw, hx, hy, hw, 1, cd_L z.1, cd_L z.2.1, cd_L z.2.2, cd_I p, cd_I q, a1, a2, a3, a4) (nI i) := by
  obtain ⟨v, W, e1, e2, h1, h2, h3, h4⟩ := cd_nat hd pz.2.2.1 hv (cd_val_b pz bp bq i) pz.2.2.2
  have g0 : 0 < Nat.gcd v W := Nat.gcd_pos_of_pos_right v h3
  have g1 : Nat.gcd v W ≤ W := Nat.gcd_le_right v h3
  unfold wpX_numerator
  dsimp only
  refine br_f (by decide) (br_f (nI_pos (by omega)) (pk_le i 2 (fun _ => cd_upper bp bq hi ?_) (fun t => absurd t (by omega))))
  rw [e1, e2, cd_L_lN, cd_L_lN]
  refine cd_div h1 h2 ⟨fun t => absurd ((pk_lEQ (a := Nat.gcd v W) (b := 0) (by omega) (by omega)).mp t) (by omega), ?_⟩
  rw [pk_lDiv (by omega) g0 (by omega), lN_i, (cd_frac h4 hd h3).1]
  exact H
theorem cd_den {post : Int32 → Prop} (pz : cd_pb z) (bp : cd_b 9 p) (bq : cd_b 9 q) {i m d : Nat} (hi : i ≤ 2) (hd : 0 < d) (hv : cd_val z p q i * d = m * z.2.2) (H : post (nI (d / Nat.gcd m d))) :
    wpX_denominator post (nc, lv, x, y, w, hl, hh, lx, ly, lw, hx, hy, hw, 1, cd_L z.1, cd_L z.2.1, cd_L z.2.2, cd_I p, cd_I q, a1, a2, a3, a4) (nI i) := by
  obtain ⟨v, W, e1, e2, h1, h2, h3, h4⟩ := cd_nat hd pz.2.2.1 hv (cd_val_b pz bp bq i) pz.2.2.2
  have g0 : 0 < Nat.gcd v W := Nat.gcd_pos_of_pos_right v h3
  have g1 : Nat.gcd v W ≤ W := Nat.gcd_le_right v h3
  unfold wpX_denominator
  dsimp only
  refine br_f (by decide) (br_f (nI_pos (by omega)) (pk_le i 2 (fun _ => cd_upper bp bq hi ?_) (fun t => absurd t (by omega))))
  rw [e1, e2, cd_L_lN, cd_L_lN]
  refine cd_div h1 h2 ⟨fun t => absurd ((pk_lEQ (a := Nat.gcd v W) (b := 0) (by omega) (by omega)).mp t) (by omega), ?_⟩
  rw [pk_lDiv (by omega) g0 (by omega), lN_i, (cd_frac h4 hd h3).2]
  exact H
theorem cd_den0 {post : Int32 → Prop} {i : Int32} (H : post 0) : wpX_denominator post (nc, lv, x, y, w, hl, hh, lx, ly, lw, hx, hy, hw, 0, bX, bY, bW, ap, aq, a1, a2, a3, a4) i := by
  unfold wpX_denominator
  exact br_t rfl H
theorem cd_lit {m : Int} (n : Int) (hn : cd_b 2000000000 n) (h : cd_b 2000000000 m) : (cd_I m < cd_I n ↔ m < n) ∧ (cd_I n < cd_I m ↔ n < m) ∧ (cd_I m ≤ cd_I n ↔ m ≤ n) := ⟨cd_I_lt h hn, cd_I_lt hn h, cd_I_le h hn⟩
theorem cd_small {m : Int} (k : Int) (hk : cd_b 2000000000 k) (hm : cd_b k m) : ¬ cd_I m < cd_I (-k) ∧ ¬ cd_I k < cd_I m ∧ cd_I m ≤ cd_I k := by
  have hm' : cd_b 2000000000 m := by
    unfold cd_b at *
    omega
  have a := (cd_lit (-k) (cd_b_neg hk) hm').1
  have b := (cd_lit k hk hm').2
  rw [a, b.1, b.2]
  unfold cd_b at hm
  omega
theorem cd_isC {post : Int32 → Prop} {a b c : Int} (ha : cd_b 9 a) (hb : cd_b 9 b) (hc : cd_b 99 c) (hn : ¬ (a = 0 ∧ b = 0)) (H : post 1) : wpX_isCondition post () (cd_I a) (cd_I b) (cd_I c) := by
  have sa := cd_small 9 ⟨by decide, by decide⟩ ha
  have sb := cd_small 9 ⟨by decide, by decide⟩ hb
  have sc := cd_small 99 ⟨by decide, by decide⟩ hc
  refine br_f sa.1 (br_f sa.2.1 (br_f sb.1 (br_f sb.2.1 (br_f sc.1 (br_f sc.2.1 (br_f (by decide) ?_))))))
  refine ek_if (cd_I_eq0 (cd_b_le ha (by decide))) (fun h => ek_if (cd_I_eq0 (cd_b_le hb (by decide))) (fun g => absurd ⟨h, g⟩ hn) (fun _ => H)) (fun _ => H)
theorem cd_test {post : Int32 → Prop} {a b c : Int} {av bv cv : Int32} (pz : cd_pb z) (ea : av = cd_I a) (eb : bv = cd_I b) (ec : cv = cd_I c) (ha : cd_b 9 a) (hb : cd_b 9 b) (hc : cd_b 99 c) (hn : ¬ (a = 0 ∧ b = 0))
    (H1 : a * z.1 + b * z.2.1 = c * z.2.2 → post 1) (H2 : a * z.1 + b * z.2.1 < c * z.2.2 → post 2) (H0 : c * z.2.2 < a * z.1 + b * z.2.1 → post 0) :
    wpX_test post (nc, lv, x, y, w, hl, hh, lx, ly, lw, hx, hy, hw, 1, cd_L z.1, cd_L z.2.1, cd_L z.2.2, ap, aq, a1, a2, a3, a4) av bv cv := by
  subst ea eb ec
  have e : ((cd_I a).toInt64 * cd_L z.1 + (cd_I b).toInt64 * cd_L z.2.1) - (cd_I c).toInt64 * cd_L z.2.2 = cd_L (a * z.1 + b * z.2.1 - c * z.2.2) := by
    rw [cd_IL (cd_b_le ha (by decide)), cd_IL (cd_b_le hb (by decide)), cd_IL (cd_b_le hc (by decide)), cd_L_mul, cd_L_mul, cd_L_mul, cd_L_add, cd_L_sub]
  have B : cd_b 4000000000000000000 (a * z.1 + b * z.2.1 - c * z.2.2) := cd_b_le (cd_b_sub (cd_b_add (cd_b_mul ha pz.1) (cd_b_mul hb pz.2.1)) (cd_b_mul hc (cd_w_b pz))) (by decide)
  unfold wpX_test
  dsimp only
  refine br_f (by decide) (cd_isC ha hb hc hn (br_f (by decide) (nm_r e ?_)))
  refine ek_if (cd_L_eq B (show cd_b _ 0 from ⟨by decide, by decide⟩)) (fun h => H1 (by omega)) (fun h => ek_if (cd_L_le (show cd_b _ 0 from ⟨by decide, by decide⟩) B) (fun g => H0 (by omega)) (fun g => H2 (by omega)))
theorem cd_R_pre {K' : cd_K} (h : cd_R (K ++ K') a1 a2 a3) : cd_R K a1 a2 a3 := by
  intro j hj
  have t := h j (by rw [List.length_append]; omega)
  have e : (K ++ K').getD j (0, 0, 0) = K.getD j (0, 0, 0) := by
    rw [List.getD_eq_getElem?_getD, List.getD_eq_getElem?_getD, List.getElem?_append_left hj]
  unfold cd_A cd_B cd_C at t
  rw [e] at t
  exact t
theorem cd_R_add {a b c : Int} (h : cd_R K a1 a2 a3) : cd_R (K ++ [(a, b, c)]) (upd a1 K.length (cd_I a)) (upd a2 K.length (cd_I b)) (upd a3 K.length (cd_I c)) := by
  intro j hj
  rw [List.length_append] at hj
  have hj' : j < K.length + 1 := hj
  by_cases e : j = K.length
  · have g : (K ++ [(a, b, c)]).getD j (0, 0, 0) = (a, b, c) := by
      rw [e, List.getD_eq_getElem?_getD, List.getElem?_append_right (Nat.le_refl _), Nat.sub_self]
      rfl
    unfold cd_A cd_B cd_C
    rw [g, e, pk_us, pk_us, pk_us]
    exact ⟨rfl, rfl, rfl⟩
  · have g : (K ++ [(a, b, c)]).getD j (0, 0, 0) = K.getD j (0, 0, 0) := by
      rw [List.getD_eq_getElem?_getD, List.getD_eq_getElem?_getD, List.getElem?_append_left (by omega)]
    unfold cd_A cd_B cd_C
    rw [g, pk_un e, pk_un e, pk_un e]
    exact h j (by omega)
theorem cd_add {post : Int32 → St2 → Prop} {a b c : Int} {av bv cv : Int32} (R : cd_R K a1 a2 a3) (h4 : 4 ≤ K.length) (hl14 : K.length < 14) (ea : av = cd_I a) (eb : bv = cd_I b) (ec : cv = cd_I c) (ha : cd_b 9 a) (hb : cd_b 9 b) (hc : cd_b 99 c) (hn : ¬ (a = 0 ∧ b = 0))
    (H : ∀ a1 a2 a3, cd_R (K ++ [(a, b, c)]) a1 a2 a3 → post (nI (K.length - 3)) (nI (K.length + 1), lv, x, y, w, hl, hh, lx, ly, lw, hx, hy, hw, rm, bX, bY, bW, ap, aq, a1, a2, a3, a4)) :
    wpX_add post (nI K.length, lv, x, y, w, hl, hh, lx, ly, lw, hx, hy, hw, rm, bX, bY, bW, ap, aq, a1, a2, a3, a4) av bv cv := by
  subst ea eb ec
  have i14 : vp_in (nI K.length) 14 := pk_in K.length 14 hl14
  unfold wpX_add
  dsimp only
  rw [nI_clamp (show K.length < 2 ^ 31 by omega)]
  refine cd_isC ha hb hc hn (br_f (by decide) (pk_lt K.length 14 (fun _ => ⟨i14, nm_e ⟨i14, nm_e ⟨i14, nm_e (nm_r (nI_1 _) ?_)⟩⟩⟩) (fun t => absurd t (by omega))))
  have t := H _ _ _ (cd_R_add (a := a) (b := b) (c := c) R)
  have e : nI (K.length + 1) - 4 = nI (K.length - 3) := by
    have := pk_sub (a := K.length + 1) (b := 4) (by omega)
    rw [show K.length + 1 - 4 = K.length - 3 by omega] at this
    exact this
  rw [e]
  exact t
theorem cd_push {post : Int32 → St2 → Prop} {l : Nat} (h : l < 8) (H : post (nI (l + 1)) (nc, nI (l + 1), x, y, w, hl, hh, lx, ly, lw, hx, hy, hw, rm, bX, bY, bW, ap, aq, a1, a2, a3, upd a4 l nc)) : wpX_push post (nc, nI l, x, y, w, hl, hh, lx, ly, lw, hx, hy, hw, rm, bX, bY, bW, ap, aq, a1, a2, a3, a4) := by
  unfold wpX_push
  dsimp only
  rw [nI_clamp (show l < 2 ^ 31 by omega)]
  exact pk_lt l 8 (fun _ => ⟨pk_in l 8 h, nm_e (nm_r (nI_1 l) H)⟩) (fun t => absurd t (by omega))
theorem cd_pop {post : Int32 → St2 → Prop} {l m : Nat} (h0 : 1 ≤ l) (h : l < 8) (hm : a4 l = nI m) (h4 : 4 ≤ m) (hm14 : m ≤ 14) (H : post (nI (m - 4)) (nI m, nI l, x, y, w, hl, hh, lx, ly, lw, hx, hy, hw, rm, bX, bY, bW, ap, aq, a1, a2, a3, a4)) : wpX_pop post (nc, nI (l + 1), x, y, w, hl, hh, lx, ly, lw, hx, hy, hw, rm, bX, bY, bW, ap, aq, a1, a2, a3, a4) := by
  unfold wpX_pop
  dsimp only
  refine pk_lt 1 (l + 1) (fun _ => nm_r (nI_pred l) ⟨pk_in l 8 h, ?_⟩) (fun t => absurd t (by omega))
  rw [nI_clamp (show l < 2 ^ 31 by omega), hm]
  refine nm_e ?_
  have e : nI m - 4 = nI (m - 4) := pk_sub (a := m) (b := 4) h4
  rw [e]
  exact H
theorem cd_pop0 {post : Int32 → St2 → Prop} (H : post (-1) (nc, nI 1, x, y, w, hl, hh, lx, ly, lw, hx, hy, hw, rm, bX, bY, bW, ap, aq, a1, a2, a3, a4)) : wpX_pop post (nc, nI 1, x, y, w, hl, hh, lx, ly, lw, hx, hy, hw, rm, bX, bY, bW, ap, aq, a1, a2, a3, a4) := by
  unfold wpX_pop
  exact pk_lt 1 1 (fun t => absurd t (by omega)) (fun _ => H)
theorem cd_possible {post : Int32 → St2 → Prop} (ok : cd_ok K) (R : cd_R K a1 a2 a3)
    (H0 : (∀ z, ¬ cd_F K K.length 100 z) → ∀ (hl hh : Int32) (x y w lx ly lw hx hy hw : Int64), post 0 (nI K.length, lv, x, y, w, hl, hh, lx, ly, lw, hx, hy, hw, rm, bX, bY, bW, ap, aq, a1, a2, a3, a4))
    (H1 : (∃ z, cd_F K K.length 100 z) → ∀ (hl hh : Int32) (x y w lx ly lw hx hy hw : Int64), post 1 (nI K.length, lv, x, y, w, hl, hh, lx, ly, lw, hx, hy, hw, rm, bX, bY, bW, ap, aq, a1, a2, a3, a4)) :
    wpX_possible post (nI K.length, lv, x, y, w, hl, hh, lx, ly, lw, hx, hy, hw, rm, bX, bY, bW, ap, aq, a1, a2, a3, a4) := by
  unfold wpX_possible
  dsimp only
  exact cd_solve ok R (show 4 ≤ 100 by omega) cd_m1 (p := 0) (q := 0) rfl rfl ⟨by decide, by decide⟩ ⟨by decide, by decide⟩ (fun no hl hh x y w lx ly lw hx hy hw => br_t rfl (H0 no _ _ _ _ _ _ _ _ _ _ _)) (fun z _ oz hl hh lx ly lw hx hy hw => br_f (by decide) (H1 ⟨z, oz.1⟩ _ _ _ _ _ _ _ _ _ _ _))
theorem cd_best {post : Int32 → St2 → Prop} (ok : cd_ok K) (R : cd_R K a1 a2 a3) (ep : pv = cd_I p) (eq : qv = cd_I q) (bp : cd_b 9 p) (bq : cd_b 9 q)
    (H0 : (∀ z, ¬ cd_F K K.length 100 z) → ∀ (hl hh : Int32) (x y w lx ly lw hx hy hw : Int64), post 0 (nI K.length, lv, x, y, w, hl, hh, lx, ly, lw, hx, hy, hw, 0, bX, bY, bW, ap, aq, a1, a2, a3, a4))
    (H1 : ∀ z, cd_pb z → cd_Opt K K.length 100 p q z → ∀ (hl hh : Int32) (x y w lx ly lw hx hy hw : Int64), post 1 (nI K.length, lv, x, y, w, hl, hh, lx, ly, lw, hx, hy, hw, 1, cd_L z.1, cd_L z.2.1, cd_L z.2.2, cd_I p, cd_I q, a1, a2, a3, a4)) :
    wpX_best post (nI K.length, lv, x, y, w, hl, hh, lx, ly, lw, hx, hy, hw, rm, bX, bY, bW, ap, aq, a1, a2, a3, a4) pv qv := by
  subst ep eq
  have sp := cd_small 9 ⟨by decide, by decide⟩ bp
  have sq := cd_small 9 ⟨by decide, by decide⟩ bq
  unfold wpX_best
  dsimp only
  refine br_f sp.1 (br_f sp.2.1 (br_f sq.1 (br_t sq.2.2 ?_)))
  exact cd_solve ok R (show 4 ≤ 100 by omega) cd_m1 rfl rfl bp bq (fun no hl hh x y w lx ly lw hx hy hw => ⟨rfl, rfl, br_t rfl (H0 no _ _ _ _ _ _ _ _ _ _ _)⟩) (fun z pz oz hl hh lx ly lw hx hy hw => ⟨rfl, rfl, br_f (by decide) (H1 z pz oz _ _ _ _ _ _ _ _ _ _ _)⟩)
theorem cd_best10 {post : Int32 → St2 → Prop} (H : post (-1) (nc, lv, x, y, w, hl, hh, lx, ly, lw, hx, hy, hw, rm, bX, bY, bW, ap, aq, a1, a2, a3, a4)) : wpX_best post (nc, lv, x, y, w, hl, hh, lx, ly, lw, hx, hy, hw, rm, bX, bY, bW, ap, aq, a1, a2, a3, a4) 10 0 := by
  unfold wpX_best
  exact br_f (by decide) (br_t (by decide) H)
end
/-- 1 if every point that meets the others meets k -/
noncomputable def cd_sp (K : cd_K) (k : Nat) : Nat := @ite _ (∀ z, cd_F K K.length k z → cd_S K k z) (Classical.propDecidable _) 1 0
noncomputable def cd_cnt (K : cd_K) : Nat → Nat
  | 0 => 0
  | n + 1 => cd_cnt K n + cd_sp K (4 + n)
theorem cd_sp_1 {K : cd_K} {k : Nat} (h : ∀ z, cd_F K K.length k z → cd_S K k z) : cd_sp K k = 1 := if_pos h
theorem cd_sp_0 {K : cd_K} {k : Nat} {z : cd_P} (h : cd_F K K.length k z) (h' : ¬ cd_S K k z) : cd_sp K k = 0 := if_neg (fun t => h' (t z h))
theorem cd_sp_le (K : cd_K) (k : Nat) : cd_sp K k ≤ 1 := by
  by_cases h : ∀ z, cd_F K K.length k z → cd_S K k z
  · rw [cd_sp_1 h]
    exact Nat.le_refl 1
  · have : cd_sp K k = 0 := if_neg h
    omega
theorem cd_cnt_le (K : cd_K) (n : Nat) : cd_cnt K n ≤ n := by
  induction n with
  | zero => exact Nat.le_refl 0
  | succ n ih =>
    have := cd_sp_le K (4 + n)
    show cd_cnt K n + cd_sp K (4 + n) ≤ n + 1
    omega
section
variable {nc lv hl hh rm ap aq : Int32} {x y w lx ly lw hx hy hw bX bY bW : Int64} {a1 a2 a3 a4 : Nat → Int32} {K : cd_K}
theorem cd_spare {post : Int32 → St2 → Prop} (ok : cd_ok K) (R : cd_R K a1 a2 a3)
    (H : ∀ (hl hh : Int32) (x y w lx ly lw hx hy hw : Int64), post (nI (cd_cnt K (K.length - 4))) (nI K.length, lv, x, y, w, hl, hh, lx, ly, lw, hx, hy, hw, rm, bX, bY, bW, ap, aq, a1, a2, a3, a4)) :
    wpX_spare post (nI K.length, lv, x, y, w, hl, hh, lx, ly, lw, hx, hy, hw, rm, bX, bY, bW, ap, aq, a1, a2, a3, a4) := by
  have hn : K.length ≤ 14 := ok.2.1
  unfold wpX_spare
  dsimp only
  refine pk_loop (fun n i (s : Int32 × Int64 × Int64 × Int64 × Int32 × Int32 × Int64 × Int64 × Int64 × Int64 × Int64 × Int64) => wX_spare_4 post n s.1 (nI i) (nI K.length) lv s.2.1 s.2.2.1 s.2.2.2.1 s.2.2.2.2.1 s.2.2.2.2.2.1 s.2.2.2.2.2.2.1 s.2.2.2.2.2.2.2.1 s.2.2.2.2.2.2.2.2.1 s.2.2.2.2.2.2.2.2.2.1 s.2.2.2.2.2.2.2.2.2.2.1 s.2.2.2.2.2.2.2.2.2.2.2 rm bX bY bW ap aq a1 a2 a3 a4)
    (fun i s => 4 ≤ i ∧ s.1 = nI (cd_cnt K (i - 4))) K.length 4 (0, x, y, w, hl, hh, lx, ly, lw, hx, hy, hw) ok.1 ⟨Nat.le_refl 4, rfl⟩ ?_ ?_
  · rintro n ⟨r, x, y, w, hl, hh, lx, ly, lw, hx, hy, hw⟩ ⟨_, e⟩
    dsimp only at e ⊢
    subst e
    exact pk_le K.length K.length (fun _ => H _ _ _ _ _ _ _ _ _ _ _) (fun t => absurd t (by omega))
  · rintro n i ⟨r, x, y, w, hl, hh, lx, ly, lw, hx, hy, hw⟩ hi ⟨i4, e⟩ W
    dsimp only at e ⊢
    subst e
    have sk := ok.2.2.1 i hi
    have ii : vp_in (nI i) 14 := pk_in i 14 (by omega)
    have hc : cd_cnt K (i + 1 - 4) = cd_cnt K (i - 4) + cd_sp K i := by
      rw [show i + 1 - 4 = (i - 4) + 1 by omega]
      show cd_cnt K (i - 4) + cd_sp K (4 + (i - 4)) = _
      rw [show 4 + (i - 4) = i by omega]
    have s1 : cd_sp K i = 1 → nI (cd_cnt K (i - 4)) + 1 = nI (cd_cnt K (i + 1 - 4)) := fun t => by
      rw [hc, t, nI_1]
    have s0 : cd_sp K i = 0 → nI (cd_cnt K (i - 4)) + 0 = nI (cd_cnt K (i + 1 - 4)) := fun t => by
      rw [hc, t]
      exact nI_add _ 0
    refine pk_le K.length i (fun t => absurd t (by omega)) (fun _ => ⟨ii, ii, ?_⟩)
    rw [nI_clamp (show i < 2 ^ 31 by omega)]
    refine cd_solve ok R (wo := i) i4 (fun j hj => nI_eq (by omega) (by omega)) (R i hi).1 (R i hi).2.1 sk.1 sk.2.1 (fun no hl hh x y w lx ly lw hx hy hw => ?_) (fun z pz oz hl hh lx ly lw hx hy hw => ?_)
    · exact br_t rfl (nm_r (s1 (cd_sp_1 (fun z hz => absurd hz (no z)))) (nm_r (nI_1 i) (W (_, x, y, w, hl, hh, lx, ly, lw, hx, hy, hw) ⟨by omega, rfl⟩)))
    · refine br_f (by decide) (cd_meets ok R hi pz (fun ns => ?_) (fun s => ?_))
      · exact br_t rfl (nm_r (s0 (cd_sp_0 oz.1 ns)) (nm_r (nI_1 i) (W (_, _, _, _, hl, hh, lx, ly, lw, hx, hy, hw) ⟨by omega, rfl⟩)))
      · refine br_f (by decide) (nm_r (s1 (cd_sp_1 (fun z' hz' => ?_))) (nm_r (nI_1 i) (W (_, _, _, _, hl, hh, lx, ly, lw, hx, hy, hw) ⟨by omega, rfl⟩)))
        have t := cd_Opt_lin oz hz'
        unfold cd_S at s ⊢
        have u := cd_ftr (w3 := 1) hz'.1 oz.1.1 (by decide) t (by rw [Int.mul_one]; exact s)
        rw [Int.mul_one] at u
        exact u
end
end
section
/-! what is best, and what is spare, on the law's own lists -/
def cd_K0 : cd_K := [(1, 0, 50), (-1, 0, 50), (0, 1, 50), (0, -1, 50)]
def cd_K3 (a b c : Int) : cd_K := [(1, 0, 50), (-1, 0, 50), (0, 1, 50), (0, -1, 50), (-1, 0, 0), (0, -1, 0), (a, b, c)]
def cd_KA (a b c d e f : Int) : cd_K := [(1, 0, 50), (-1, 0, 50), (0, 1, 50), (0, -1, 50), (-1, 0, 0), (0, -1, 0), (a, b, c), (d, e, f)]
def cd_K5 (a b c u : Int) : cd_K := [(1, 0, 50), (-1, 0, 50), (0, 1, 50), (0, -1, 50), (-1, 0, 0), (0, -1, 0), (a, b, c), (a, b, c + u), (-a, -b, -c)]
def cd_K6 (a b c u : Int) : cd_K := [(1, 0, 50), (-1, 0, 50), (0, 1, 50), (0, -1, 50), (-1, 0, 0), (0, -1, 0), (a, b, c), (a, b, c + u), (-a, -b, -c), (1, 0, -1)]
/-- the law's three numbers -/
def cd_abc (a b c : Int) : Prop := 1 ≤ a ∧ a ≤ 8 ∧ 1 ≤ b ∧ b ≤ 8 ∧ 1 ≤ c ∧ c ≤ 49
theorem cd_ok_add {K : cd_K} {a b c : Int} (ok : cd_ok K) (h14 : K.length < 14) (ha : cd_b 9 a) (hb : cd_b 9 b) (hc : cd_b 99 c) (hn : ¬ (a = 0 ∧ b = 0)) : cd_ok (K ++ [(a, b, c)]) := by
  obtain ⟨o1, o2, o3, o4, o5, o6, o7⟩ := ok
  have g : ∀ j, j < K.length → (K ++ [(a, b, c)]).getD j (0, 0, 0) = K.getD j (0, 0, 0) := by
    intro j hj
    rw [List.getD_eq_getElem?_getD, List.getD_eq_getElem?_getD, List.getElem?_append_left hj]
  have l : (K ++ [(a, b, c)]).length = K.length + 1 := List.length_append
  refine ⟨by omega, by omega, ?_, by rw [g 0 (by omega)]; exact o4, by rw [g 1 (by omega)]; exact o5, by rw [g 2 (by omega)]; exact o6, by rw [g 3 (by omega)]; exact o7⟩
  intro j hj
  rw [l] at hj
  unfold cd_sm cd_A cd_B cd_C
  by_cases e : j = K.length
  · have t : (K ++ [(a, b, c)]).getD j (0, 0, 0) = (a, b, c) := by
      rw [e, List.getD_eq_getElem?_getD, List.getElem?_append_right (Nat.le_refl _), Nat.sub_self]
      rfl
    rw [t]
    exact ⟨ha, hb, hc, hn⟩
  · rw [g j (by omega)]
    exact o3 j (by omega)
theorem cd_ok_0 : cd_ok cd_K0 := by
  refine ⟨by decide, by decide, ?_, rfl, rfl, rfl, rfl⟩
  intro j hj
  have h : j = 0 ∨ j = 1 ∨ j = 2 ∨ j = 3 := by
    have : j < 4 := hj
    omega
  rcases h with e | e | e | e <;> subst e <;> exact ⟨⟨by decide, by decide⟩, ⟨by decide, by decide⟩, ⟨by decide, by decide⟩, by decide⟩
theorem cd_ok_3 {a b c : Int} (h : cd_abc a b c) : cd_ok (cd_K3 a b c) := by
  obtain ⟨h1, h2, h3, h4, h5, h6⟩ := h
  have o1 := cd_ok_add (a := -1) (b := 0) (c := 0) cd_ok_0 (by decide) ⟨by decide, by decide⟩ ⟨by decide, by decide⟩ ⟨by decide, by decide⟩ (by decide)
  have o2 := cd_ok_add (a := 0) (b := -1) (c := 0) o1 (by decide) ⟨by decide, by decide⟩ ⟨by decide, by decide⟩ ⟨by decide, by decide⟩ (by decide)
  exact cd_ok_add (a := a) (b := b) (c := c) o2 (by decide) ⟨by omega, by omega⟩ ⟨by omega, by omega⟩ ⟨by omega, by omega⟩ (by omega)
theorem cd_ok_A {a b c d e f : Int} (h : cd_abc a b c) (hd : cd_b 9 d) (he : cd_b 9 e) (hf : cd_b 99 f) (hn : ¬ (d = 0 ∧ e = 0)) : cd_ok (cd_KA a b c d e f) :=
  cd_ok_add (cd_ok_3 h) (show 7 < 14 by decide) hd he hf hn
theorem cd_ok_5 {a b c u : Int} (h : cd_abc a b c) (hu : 0 ≤ u) (hu' : u ≤ 31) : cd_ok (cd_K5 a b c u) := by
  have h' := h
  obtain ⟨h1, h2, h3, h4, h5, h6⟩ := h'
  exact cd_ok_add (cd_ok_A (d := a) (e := b) (f := c + u) h ⟨by omega, by omega⟩ ⟨by omega, by omega⟩ ⟨by omega, by omega⟩ (by omega)) (show 8 < 14 by decide) ⟨by omega, by omega⟩ ⟨by omega, by omega⟩ ⟨by omega, by omega⟩ (by omega)
theorem cd_ok_6 {a b c u : Int} (h : cd_abc a b c) (hu : 0 ≤ u) (hu' : u ≤ 31) : cd_ok (cd_K6 a b c u) :=
  cd_ok_add (cd_ok_5 h hu hu') (show 9 < 14 by decide) ⟨by decide, by decide⟩ ⟨by decide, by decide⟩ ⟨by decide, by decide⟩ (by decide)
/-- the first seven conditions of any of the lists -/
def cd_pre (K : cd_K) (a b c : Int) : Prop := ∀ z : cd_P, (cd_S K 0 z ↔ z.1 ≤ 50 * z.2.2) ∧ (cd_S K 1 z ↔ -z.1 ≤ 50 * z.2.2) ∧ (cd_S K 2 z ↔ z.2.1 ≤ 50 * z.2.2) ∧ (cd_S K 3 z ↔ -z.2.1 ≤ 50 * z.2.2) ∧ (cd_S K 4 z ↔ 0 ≤ z.1) ∧ (cd_S K 5 z ↔ 0 ≤ z.2.1) ∧ (cd_S K 6 z ↔ a * z.1 + b * z.2.1 ≤ c * z.2.2)
theorem cd_row {K : cd_K} {j : Nat} {a b c : Int} (h : K.getD j (0, 0, 0) = (a, b, c)) (z : cd_P) : cd_S K j z ↔ a * z.1 + b * z.2.1 ≤ c * z.2.2 := by
  unfold cd_S cd_A cd_B cd_C
  rw [h]
theorem cd_pre_of {K : cd_K} {a b c : Int} (h0 : K.getD 0 (0, 0, 0) = (1, 0, 50)) (h1 : K.getD 1 (0, 0, 0) = (-1, 0, 50)) (h2 : K.getD 2 (0, 0, 0) = (0, 1, 50)) (h3 : K.getD 3 (0, 0, 0) = (0, -1, 50)) (h4 : K.getD 4 (0, 0, 0) = (-1, 0, 0)) (h5 : K.getD 5 (0, 0, 0) = (0, -1, 0)) (h6 : K.getD 6 (0, 0, 0) = (a, b, c)) : cd_pre K a b c := by
  intro z
  rw [cd_row h0, cd_row h1, cd_row h2, cd_row h3, cd_row h4, cd_row h5, cd_row h6]
  refine ⟨?_, ?_, ?_, ?_, ?_, ?_, Iff.rfl⟩ <;> constructor <;> intro h <;> omega
theorem cd_pre_3 (a b c : Int) : cd_pre (cd_K3 a b c) a b c := cd_pre_of rfl rfl rfl rfl rfl rfl rfl
theorem cd_pre_A (a b c d e f : Int) : cd_pre (cd_KA a b c d e f) a b c := cd_pre_of rfl rfl rfl rfl rfl rfl rfl
theorem cd_pre_5 (a b c u : Int) : cd_pre (cd_K5 a b c u) a b c := cd_pre_of rfl rfl rfl rfl rfl rfl rfl
theorem cd_pre_6 (a b c u : Int) : cd_pre (cd_K6 a b c u) a b c := cd_pre_of rfl rfl rfl rfl rfl rfl rfl
theorem cd_F7 {K : cd_K} {a b c : Int} (pre : cd_pre K a b c) {wo : Nat} {x y w : Int} (hw : 0 < w) (h0 : x ≤ 50 * w) (h1 : -x ≤ 50 * w) (h2 : y ≤ 50 * w) (h3 : -y ≤ 50 * w) (h4 : wo = 4 ∨ 0 ≤ x) (h5 : wo = 5 ∨ 0 ≤ y) (h6 : wo = 6 ∨ a * x + b * y ≤ c * w) : cd_F K 7 wo (x, y, w) := by
  obtain ⟨p0, p1, p2, p3, p4, p5, p6⟩ := pre (x, y, w)
  refine ⟨hw, fun j hj hn => ?_⟩
  have h : j = 0 ∨ j = 1 ∨ j = 2 ∨ j = 3 ∨ j = 4 ∨ j = 5 ∨ j = 6 := by omega
  rcases h with e | e | e | e | e | e | e <;> subst e
  · exact p0.mpr h0
  · exact p1.mpr h1
  · exact p2.mpr h2
  · exact p3.mpr h3
  · exact p4.mpr (h4.resolve_left (fun t => hn t.symm))
  · exact p5.mpr (h5.resolve_left (fun t => hn t.symm))
  · exact p6.mpr (h6.resolve_left (fun t => hn t.symm))
theorem cd_F_succ {K : cd_K} {n wo : Nat} {z : cd_P} (h : cd_F K n wo z) (hs : wo = n ∨ cd_S K n z) : cd_F K (n + 1) wo z := by
  refine ⟨h.1, fun j hj hn => ?_⟩
  by_cases e : j = n
  · subst e
    exact hs.resolve_left (fun t => hn t.symm)
  · exact h.2 j (by omega) hn
/-- what a point that meets the list gives -/
theorem cd_get {K : cd_K} {a b c : Int} (pre : cd_pre K a b c) {n wo : Nat} {z : cd_P} (hF : cd_F K n wo z) (hn : 7 ≤ n) : 0 < z.2.2 ∧ (wo = 4 ∨ 0 ≤ z.1) ∧ (wo = 5 ∨ 0 ≤ z.2.1) ∧ (wo = 6 ∨ a * z.1 + b * z.2.1 ≤ c * z.2.2) := by
  obtain ⟨_, _, _, _, p4, p5, p6⟩ := pre z
  refine ⟨hF.1, ?_, ?_, ?_⟩
  · by_cases e : wo = 4
    · exact Or.inl e
    · exact Or.inr (p4.mp (hF.2 4 (by omega) (fun t => e t.symm)))
  · by_cases e : wo = 5
    · exact Or.inl e
    · exact Or.inr (p5.mp (hF.2 5 (by omega) (fun t => e t.symm)))
  · by_cases e : wo = 6
    · exact Or.inl e
    · exact Or.inr (p6.mp (hF.2 6 (by omega) (fun t => e t.symm)))
theorem cd_get100 {K : cd_K} {a b c : Int} (pre : cd_pre K a b c) {n : Nat} {z : cd_P} (hF : cd_F K n 100 z) (hn : 7 ≤ n) : 0 < z.2.2 ∧ 0 ≤ z.1 ∧ 0 ≤ z.2.1 ∧ a * z.1 + b * z.2.1 ≤ c * z.2.2 := by
  obtain ⟨h1, h2, h3, h4⟩ := cd_get pre hF hn
  exact ⟨h1, h2.resolve_left (by decide), h3.resolve_left (by decide), h4.resolve_left (by decide)⟩
/-- a best point for (1, 0): (c / a, 0) -/
theorem cd_b10 {K : cd_K} {a b c : Int} {n : Nat} {z : cd_P} (h : cd_abc a b c) (pre : cd_pre K a b c) (hn : 7 ≤ n) (hO : cd_Opt K n 100 1 0 z) (hz : cd_F K n 100 (c, 0, a)) : z.1 * a = c * z.2.2 ∧ z.2.1 = 0 := by
  obtain ⟨h1, h2, h3, h4, h5, h6⟩ := h
  obtain ⟨g1, g2, g3, g4⟩ := cd_get100 pre hO.1 hn
  have t := hO.2 100 (by omega) _ hz
  unfold cd_v at t
  obtain ⟨x, y, w⟩ := z
  dsimp only at *
  have t' : 9900 * (c * w) ≤ 9900 * (a * x) - a * y := by
    have e1 : ((1 * 100 * 100 - 100) * c + (0 * 100 * 100 - 1) * 0) * w = 9900 * (c * w) := by grind
    have e2 : ((1 * 100 * 100 - 100) * x + (0 * 100 * 100 - 1) * y) * a = 9900 * (a * x) - a * y := by grind
    rw [e1, e2] at t
    exact t
  have k1 : 0 ≤ a * y := Int.mul_nonneg (by omega) g3
  have k2 : 1 * y ≤ b * y := Int.mul_le_mul_of_nonneg_right h3 g3
  have y0 : y = 0 := by omega
  rw [y0, Int.mul_zero] at g4 t'
  rw [Int.mul_comm x a]
  exact ⟨by omega, y0⟩
/-- a best point for (0, 1): (0, c / b) -/
theorem cd_b01 {K : cd_K} {a b c : Int} {n : Nat} {z : cd_P} (h : cd_abc a b c) (pre : cd_pre K a b c) (hn : 7 ≤ n) (hO : cd_Opt K n 100 0 1 z) (hz : cd_F K n 100 (0, c, b)) : z.2.1 * b = c * z.2.2 ∧ z.1 = 0 := by
  obtain ⟨h1, h2, h3, h4, h5, h6⟩ := h
  obtain ⟨g1, g2, g3, g4⟩ := cd_get100 pre hO.1 hn
  have t := hO.2 100 (by omega) _ hz
  unfold cd_v at t
  obtain ⟨x, y, w⟩ := z
  dsimp only at *
  have t' : 9999 * (c * w) ≤ 9999 * (b * y) - 100 * (b * x) := by
    have e1 : ((0 * 100 * 100 - 100) * 0 + (1 * 100 * 100 - 1) * c) * w = 9999 * (c * w) := by grind
    have e2 : ((0 * 100 * 100 - 100) * x + (1 * 100 * 100 - 1) * y) * b = 9999 * (b * y) - 100 * (b * x) := by grind
    rw [e1, e2] at t
    exact t
  have k1 : 0 ≤ b * x := Int.mul_nonneg (by omega) g2
  have k2 : 1 * x ≤ a * x := Int.mul_le_mul_of_nonneg_right h1 g2
  have x0 : x = 0 := by omega
  rw [x0, Int.mul_zero] at g4 t'
  rw [Int.mul_comm y b]
  exact ⟨by omega, x0⟩
/-- a best point for an aim that runs against both: (0, 0) -/
theorem cd_b00 {K : cd_K} {a b c p q : Int} {n : Nat} {z : cd_P} (pre : cd_pre K a b c) (hn : 7 ≤ n) (hp : p ≤ 0) (hq : q ≤ 0) (hO : cd_Opt K n 100 p q z) (hz : cd_F K n 100 (0, 0, 1)) : z.1 = 0 ∧ z.2.1 = 0 := by
  obtain ⟨g1, g2, g3, g4⟩ := cd_get100 pre hO.1 hn
  have t := hO.2 100 (by omega) _ hz
  unfold cd_v at t
  obtain ⟨x, y, w⟩ := z
  dsimp only at *
  have e1 : ((p * 100 * 100 - 100) * 0 + (q * 100 * 100 - 1) * 0) * w = 0 := by grind
  have e2 : ((p * 100 * 100 - 100) * x + (q * 100 * 100 - 1) * y) * 1 = 10000 * (p * x) - 100 * x + 10000 * (q * y) - y := by grind
  rw [e1, e2] at t
  have k1 : p * x ≤ 0 * x := Int.mul_le_mul_of_nonneg_right hp g2
  have k2 : q * y ≤ 0 * y := Int.mul_le_mul_of_nonneg_right hq g3
  omega
/-- a best point for (a, b): of the line's points the one with least x -/
theorem cd_bab {K : cd_K} {a b c : Int} {n : Nat} {z : cd_P} (h : cd_abc a b c) (pre : cd_pre K a b c) (hn : 7 ≤ n) (hO : cd_Opt K n 100 a b z) (hz : cd_F K n 100 (0, c, b)) : z.2.1 * b = c * z.2.2 ∧ z.1 = 0 := by
  obtain ⟨h1, h2, h3, h4, h5, h6⟩ := h
  obtain ⟨g1, g2, g3, g4⟩ := cd_get100 pre hO.1 hn
  have t := hO.2 100 (by omega) _ hz
  unfold cd_v at t
  obtain ⟨x, y, w⟩ := z
  dsimp only at *
  have e : ((a * 100 * 100 - 100) * x + (b * 100 * 100 - 1) * y) * b - ((a * 100 * 100 - 100) * 0 + (b * 100 * 100 - 1) * c) * w = -((10000 * b - 1) * (c * w - (a * x + b * y)) + (100 * b - a) * x) := by grind
  have k0 : 0 ≤ c * w - (a * x + b * y) := by omega
  have k1 : 1 * (c * w - (a * x + b * y)) ≤ (10000 * b - 1) * (c * w - (a * x + b * y)) := Int.mul_le_mul_of_nonneg_right (by omega) k0
  have k2 : 1 * x ≤ (100 * b - a) * x := Int.mul_le_mul_of_nonneg_right (by omega) g2
  generalize (10000 * b - 1) * (c * w - (a * x + b * y)) = s1 at *
  generalize (100 * b - a) * x = s2 at *
  have x0 : x = 0 := by omega
  have s0 : c * w - (a * x + b * y) = 0 := by omega
  rw [x0, Int.mul_zero] at s0
  rw [Int.mul_comm y b]
  exact ⟨by omega, x0⟩
/-- a best point for (-1, 0) on the line a x + b y = c: (0, c / b) -/
theorem cd_bm0 {K : cd_K} {a b c : Int} {n : Nat} {z : cd_P} (h : cd_abc a b c) (pre : cd_pre K a b c) (hn : 7 ≤ n) (hO : cd_Opt K n 100 (-1) 0 z) (hl : c * z.2.2 ≤ a * z.1 + b * z.2.1) (hz : cd_F K n 100 (0, c, b)) : z.2.1 * b = c * z.2.2 ∧ z.1 = 0 := by
  obtain ⟨h1, h2, h3, h4, h5, h6⟩ := h
  obtain ⟨g1, g2, g3, g4⟩ := cd_get100 pre hO.1 hn
  have t := hO.2 100 (by omega) _ hz
  unfold cd_v at t
  obtain ⟨x, y, w⟩ := z
  dsimp only at *
  have e1 : ((-1 * 100 * 100 - 100) * 0 + (0 * 100 * 100 - 1) * c) * w = -(c * w) := by grind
  have e2 : ((-1 * 100 * 100 - 100) * x + (0 * 100 * 100 - 1) * y) * b = -(10100 * (b * x)) - b * y := by grind
  rw [e1, e2] at t
  have k1 : 1 * x ≤ b * x := Int.mul_le_mul_of_nonneg_right h3 g2
  have k2 : a * x ≤ 8 * x := Int.mul_le_mul_of_nonneg_right h2 g2
  have x0 : x = 0 := by omega
  rw [x0, Int.mul_zero] at g4 hl
  rw [Int.mul_comm y b]
  exact ⟨by omega, x0⟩
end
section
section
variable {a b c : Int}
theorem cd_cnt3 (K : cd_K) : cd_cnt K 3 = cd_sp K 4 + cd_sp K 5 + cd_sp K 6 := by
  show 0 + cd_sp K 4 + cd_sp K 5 + cd_sp K 6 = _
  omega
theorem cd_cnt4 (K : cd_K) : cd_cnt K 4 = cd_sp K 4 + cd_sp K 5 + cd_sp K 6 + cd_sp K 7 := by
  show 0 + cd_sp K 4 + cd_sp K 5 + cd_sp K 6 + cd_sp K 7 = _
  omega
theorem cd_cnt6 (K : cd_K) : cd_cnt K 6 = cd_sp K 4 + cd_sp K 5 + cd_sp K 6 + cd_sp K 7 + cd_sp K 8 + cd_sp K 9 := by
  show 0 + cd_sp K 4 + cd_sp K 5 + cd_sp K 6 + cd_sp K 7 + cd_sp K 8 + cd_sp K 9 = _
  omega
theorem cd_spare3 (h : cd_abc a b c) : cd_cnt (cd_K3 a b c) 3 = 0 := by
  obtain ⟨h1, h2, h3, h4, h5, h6⟩ := h
  have pre := cd_pre_3 a b c
  have s4 : cd_sp (cd_K3 a b c) 4 = 0 := cd_sp_0 (z := (-1, 0, 1)) (cd_F7 pre (by omega) (by omega) (by omega) (by omega) (by omega) (Or.inl rfl) (by omega) (by omega)) (fun t => absurd ((pre _).2.2.2.2.1.mp t) (by decide))
  have s5 : cd_sp (cd_K3 a b c) 5 = 0 := cd_sp_0 (z := (0, -1, 1)) (cd_F7 pre (by omega) (by omega) (by omega) (by omega) (by omega) (by omega) (Or.inl rfl) (by omega)) (fun t => absurd ((pre _).2.2.2.2.2.1.mp t) (by decide))
  have s6 : cd_sp (cd_K3 a b c) 6 = 0 := cd_sp_0 (z := (50, 50, 1)) (cd_F7 pre (by omega) (by omega) (by omega) (by omega) (by omega) (by omega) (by omega) (Or.inl rfl)) (fun t => by
    have := (pre _).2.2.2.2.2.2.mp t
    dsimp only at this
    omega)
  rw [cd_cnt3, s4, s5, s6]
/-- the first three rows of an eight are not spare, each by its own point -/
theorem cd_spareA {d e f : Int} (h : cd_abc a b c) (k4 : d * (-1) + e * 0 ≤ f * 1) (k5 : d * 0 + e * (-1) ≤ f * 1) : cd_sp (cd_KA a b c d e f) 4 = 0 ∧ cd_sp (cd_KA a b c d e f) 5 = 0 := by
  obtain ⟨h1, h2, h3, h4, h5, h6⟩ := h
  have pre := cd_pre_A a b c d e f
  have r7 := fun z : cd_P => cd_row (K := cd_KA a b c d e f) (j := 7) rfl z
  constructor
  · exact cd_sp_0 (z := (-1, 0, 1)) (cd_F_succ (n := 7) (cd_F7 pre (by omega) (by omega) (by omega) (by omega) (by omega) (Or.inl rfl) (by omega) (by omega)) (Or.inr ((r7 _).mpr k4))) (fun t => absurd ((pre _).2.2.2.2.1.mp t) (by decide))
  · exact cd_sp_0 (z := (0, -1, 1)) (cd_F_succ (n := 7) (cd_F7 pre (by omega) (by omega) (by omega) (by omega) (by omega) (by omega) (Or.inl rfl) (by omega)) (Or.inr ((r7 _).mpr k5))) (fun t => absurd ((pre _).2.2.2.2.2.1.mp t) (by decide))
theorem cd_spare4 {u : Int} (h : cd_abc a b c) (hu : 0 ≤ u) : cd_cnt (cd_KA a b c a b (c + u)) 4 = if u = 0 then 2 else 1 := by
  have h' := h
  obtain ⟨h1, h2, h3, h4, h5, h6⟩ := h'
  have pre := cd_pre_A a b c a b (c + u)
  have r7 := fun z : cd_P => cd_row (K := cd_KA a b c a b (c + u)) (j := 7) rfl z
  obtain ⟨s4, s5⟩ := cd_spareA (d := a) (e := b) (f := c + u) h (by omega) (by omega)
  have s7 : cd_sp (cd_KA a b c a b (c + u)) 7 = 1 := cd_sp_1 (fun z hz => by
    obtain ⟨g1, _, _, g4⟩ := cd_get pre hz (show 7 ≤ 8 by decide)
    have g := g4.resolve_left (by decide)
    have k : 0 ≤ u * z.2.2 := Int.mul_nonneg hu (Int.le_of_lt g1)
    refine (r7 z).mpr ?_
    rw [Int.add_mul]
    omega)
  by_cases e : u = 0
  · have s6 : cd_sp (cd_KA a b c a b (c + u)) 6 = 1 := cd_sp_1 (fun z hz => by
      have g := (r7 z).mp (hz.2 7 (show 7 < 8 by decide) (by decide))
      refine (pre z).2.2.2.2.2.2.mpr ?_
      rw [e, Int.add_zero] at g
      exact g)
    rw [cd_cnt4, s4, s5, s6, s7, if_pos e]
  · have e1 : b * (c + 1) = c * b + b := by grind
    have e2 : (c + u) * b = c * b + u * b := by grind
    have k : 1 * b ≤ u * b := Int.mul_le_mul_of_nonneg_right (by omega) (by omega)
    have s6 : cd_sp (cd_KA a b c a b (c + u)) 6 = 0 := cd_sp_0 (z := (0, c + 1, b)) (cd_F_succ (n := 7) (cd_F7 pre (by omega) (by omega) (by omega) (by omega) (by omega) (by omega) (by omega) (Or.inl rfl)) (Or.inr ((r7 _).mpr (by
      show a * 0 + b * (c + 1) ≤ (c + u) * b
      omega)))) (fun t => by
      have g := (pre _).2.2.2.2.2.2.mp t
      dsimp only at g
      omega)
    rw [cd_cnt4, s4, s5, s6, s7, if_neg e]
theorem cd_spareE {e : Int} (h : cd_abc a b c) (he : 0 ≤ e) : cd_cnt (cd_KA a b c 1 0 e) 4 = if c ≤ e * a then 1 else 0 := by
  have h' := h
  obtain ⟨h1, h2, h3, h4, h5, h6⟩ := h'
  have pre := cd_pre_A a b c 1 0 e
  have r7 := fun z : cd_P => cd_row (K := cd_KA a b c 1 0 e) (j := 7) rfl z
  obtain ⟨s4, s5⟩ := cd_spareA (d := 1) (e := 0) (f := e) h (by omega) (by omega)
  have s6 : cd_sp (cd_KA a b c 1 0 e) 6 = 0 := cd_sp_0 (z := (0, 50, 1)) (cd_F_succ (n := 7) (cd_F7 pre (by omega) (by omega) (by omega) (by omega) (by omega) (by omega) (by omega) (Or.inl rfl)) (Or.inr ((r7 _).mpr (by
    show 1 * 0 + 0 * 50 ≤ e * 1
    omega)))) (fun t => by
    have g := (pre _).2.2.2.2.2.2.mp t
    dsimp only at g
    omega)
  by_cases hc : c ≤ e * a
  · have s7 : cd_sp (cd_KA a b c 1 0 e) 7 = 1 := cd_sp_1 (fun z hz => by
      obtain ⟨g1, _, g3, g4⟩ := cd_get pre hz (show 7 ≤ 8 by decide)
      have g3' := g3.resolve_left (by decide)
      have g := g4.resolve_left (by decide)
      have k1 : 0 ≤ b * z.2.1 := Int.mul_nonneg (by omega) g3'
      have k2 : c * z.2.2 ≤ e * a * z.2.2 := Int.mul_le_mul_of_nonneg_right hc (Int.le_of_lt g1)
      have k3 : e * a * z.2.2 = a * (e * z.2.2) := by grind
      have k4 : z.1 ≤ e * z.2.2 := Int.le_of_mul_le_mul_left (a := a) (by omega) (by omega)
      refine (r7 z).mpr ?_
      omega)
    rw [cd_cnt4, s4, s5, s6, s7, if_pos hc]
  · have s7 : cd_sp (cd_KA a b c 1 0 e) 7 = 0 := cd_sp_0 (z := (c, 0, a)) (cd_F_succ (n := 7) (cd_F7 pre (by omega) (by omega) (by omega) (by omega) (by omega) (by omega) (by omega) (Or.inr (by
      rw [Int.mul_comm a c]
      omega))) (Or.inl rfl)) (fun t => by
      have g := (r7 _).mp t
      dsimp only at g
      omega)
    rw [cd_cnt4, s4, s5, s6, s7, if_neg hc]
theorem cd_spareD (h : cd_abc a b c) : cd_cnt (cd_KA a b c (-1) (-1) 0) 4 = 1 := by
  obtain ⟨h1, h2, h3, h4, h5, h6⟩ := h
  have pre := cd_pre_A a b c (-1) (-1) 0
  have r7 := fun z : cd_P => cd_row (K := cd_KA a b c (-1) (-1) 0) (j := 7) rfl z
  have s4 : cd_sp (cd_KA a b c (-1) (-1) 0) 4 = 0 := cd_sp_0 (z := (-1, 1, 8)) (cd_F_succ (n := 7) (cd_F7 pre (by omega) (by omega) (by omega) (by omega) (by omega) (Or.inl rfl) (by omega) (by omega)) (Or.inr ((r7 _).mpr (by decide)))) (fun t => absurd ((pre _).2.2.2.2.1.mp t) (by decide))
  have s5 : cd_sp (cd_KA a b c (-1) (-1) 0) 5 = 0 := cd_sp_0 (z := (1, -1, 8)) (cd_F_succ (n := 7) (cd_F7 pre (by omega) (by omega) (by omega) (by omega) (by omega) (by omega) (Or.inl rfl) (by omega)) (Or.inr ((r7 _).mpr (by decide)))) (fun t => absurd ((pre _).2.2.2.2.2.1.mp t) (by decide))
  have s6 : cd_sp (cd_KA a b c (-1) (-1) 0) 6 = 0 := cd_sp_0 (z := (50, 50, 1)) (cd_F_succ (n := 7) (cd_F7 pre (by omega) (by omega) (by omega) (by omega) (by omega) (by omega) (by omega) (Or.inl rfl)) (Or.inr ((r7 _).mpr (by decide)))) (fun t => by
    have g := (pre _).2.2.2.2.2.2.mp t
    dsimp only at g
    omega)
  have s7 : cd_sp (cd_KA a b c (-1) (-1) 0) 7 = 1 := cd_sp_1 (fun z hz => by
    obtain ⟨g1, g2, g3, _⟩ := cd_get pre hz (show 7 ≤ 8 by decide)
    have g2' := g2.resolve_left (by decide)
    have g3' := g3.resolve_left (by decide)
    refine (r7 z).mpr ?_
    omega)
  rw [cd_cnt4, s4, s5, s6, s7]
theorem cd_inf6 {u : Int} {wo : Nat} (hw4 : wo ≠ 4) (hw9 : wo ≠ 9) (z : cd_P) : ¬ cd_F (cd_K6 a b c u) 10 wo z := by
  intro hz
  have g4 := ((cd_pre_6 a b c u) z).2.2.2.2.1.mp (hz.2 4 (by decide) (fun t => hw4 t.symm))
  have g9 := (cd_row (K := cd_K6 a b c u) (j := 9) rfl z).mp (hz.2 9 (by decide) (fun t => hw9 t.symm))
  have g0 := hz.1
  omega
theorem cd_spare6 (u : Int) : 4 ≤ cd_cnt (cd_K6 a b c u) 6 := by
  have s5 : cd_sp (cd_K6 a b c u) 5 = 1 := cd_sp_1 (fun z hz => absurd hz (cd_inf6 (by decide) (by decide) z))
  have s6 : cd_sp (cd_K6 a b c u) 6 = 1 := cd_sp_1 (fun z hz => absurd hz (cd_inf6 (by decide) (by decide) z))
  have s7 : cd_sp (cd_K6 a b c u) 7 = 1 := cd_sp_1 (fun z hz => absurd hz (cd_inf6 (by decide) (by decide) z))
  have s8 : cd_sp (cd_K6 a b c u) 8 = 1 := cd_sp_1 (fun z hz => absurd hz (cd_inf6 (by decide) (by decide) z))
  rw [cd_cnt6, s5, s6, s7, s8]
  omega
/-- the points that the law's answers are -/
theorem cd_P3 (h : cd_abc a b c) : cd_F (cd_K3 a b c) 7 100 (0, 0, 1) ∧ cd_F (cd_K3 a b c) 7 100 (c, 0, a) ∧ cd_F (cd_K3 a b c) 7 100 (0, c, b) := by
  obtain ⟨h1, h2, h3, h4, h5, h6⟩ := h
  have pre := cd_pre_3 a b c
  have e1 := Int.mul_comm a c
  have e2 := Int.mul_comm b c
  exact ⟨cd_F7 pre (by omega) (by omega) (by omega) (by omega) (by omega) (by omega) (by omega) (by omega), cd_F7 pre (by omega) (by omega) (by omega) (by omega) (by omega) (by omega) (by omega) (by omega), cd_F7 pre (by omega) (by omega) (by omega) (by omega) (by omega) (by omega) (by omega) (by omega)⟩
theorem cd_P5 {u : Int} (h : cd_abc a b c) (hu : 0 ≤ u) : cd_F (cd_K5 a b c u) 9 100 (c, 0, a) ∧ cd_F (cd_K5 a b c u) 9 100 (0, c, b) := by
  obtain ⟨h1, h2, h3, h4, h5, h6⟩ := h
  have pre := cd_pre_5 a b c u
  have r7 := fun z : cd_P => cd_row (K := cd_K5 a b c u) (j := 7) rfl z
  have r8 := fun z : cd_P => cd_row (K := cd_K5 a b c u) (j := 8) rfl z
  have e1 := Int.mul_comm a c
  have e2 := Int.mul_comm b c
  have e3 : (c + u) * a = c * a + u * a := Int.add_mul c u a
  have e4 : (c + u) * b = c * b + u * b := Int.add_mul c u b
  have k1 : 0 ≤ u * a := Int.mul_nonneg hu (by omega)
  have k2 : 0 ≤ u * b := Int.mul_nonneg hu (by omega)
  have n1 : -a * c = -(c * a) := by grind
  have n2 : -b * c = -(c * b) := by grind
  have n3 : -c * a = -(c * a) := by grind
  have n4 : -c * b = -(c * b) := by grind
  constructor
  · refine cd_F_succ (n := 8) (cd_F_succ (n := 7) (cd_F7 pre (by omega) (by omega) (by omega) (by omega) (by omega) (by omega) (by omega) (by omega)) (Or.inr ((r7 _).mpr ?_))) (Or.inr ((r8 _).mpr ?_))
    · show a * c + b * 0 ≤ (c + u) * a
      omega
    · show -a * c + -b * 0 ≤ -c * a
      omega
  · refine cd_F_succ (n := 8) (cd_F_succ (n := 7) (cd_F7 pre (by omega) (by omega) (by omega) (by omega) (by omega) (by omega) (by omega) (by omega)) (Or.inr ((r7 _).mpr ?_))) (Or.inr ((r8 _).mpr ?_))
    · show a * 0 + b * c ≤ (c + u) * b
      omega
    · show -a * 0 + -b * c ≤ -c * b
      omega
theorem cd_line5 {u : Int} {z : cd_P} (hz : cd_F (cd_K5 a b c u) 9 100 z) : c * z.2.2 ≤ a * z.1 + b * z.2.1 := by
  have g := (cd_row (K := cd_K5 a b c u) (j := 8) rfl z).mp (hz.2 8 (by decide) (by decide))
  have n1 : -a * z.1 = -(a * z.1) := Int.neg_mul _ _
  have n2 : -b * z.2.1 = -(b * z.2.1) := Int.neg_mul _ _
  have n3 : -c * z.2.2 = -(c * z.2.2) := Int.neg_mul _ _
  omega
theorem cd_PD (h : cd_abc a b c) : cd_F (cd_KA a b c (-1) (-1) 0) 8 100 (0, 0, 1) := by
  obtain ⟨h1, h2, h3, h4, h5, h6⟩ := h
  have pre := cd_pre_A a b c (-1) (-1) 0
  exact cd_F_succ (n := 7) (cd_F7 pre (by omega) (by omega) (by omega) (by omega) (by omega) (by omega) (by omega) (by omega)) (Or.inr ((cd_row (K := cd_KA a b c (-1) (-1) 0) (j := 7) rfl _).mpr (by decide)))
end
end
section
theorem cd_v0 {z : cd_P} {p q : Int} {i : Nat} (h : cd_val z p q i = 0) : cd_val z p q i * ((1 : Nat) : Int) = ((0 : Nat) : Int) * z.2.2 := by
  rw [h]
  omega
theorem cd_b9 (n : Int) (h : -9 ≤ n) (h' : n ≤ 9) : cd_b 9 n := ⟨h, h'⟩
theorem cd_b99 (n : Int) (h : -99 ≤ n) (h' : n ≤ 99) : cd_b 99 n := ⟨h, h'⟩
section
variable {mc ms kc ks : Nat} {post : Int32 → St0 → Prop} {nc lv hl hh rm ap aq : Int32} {x y w lx ly lw hx hy hw bX bY bW : Int64} {a1 a2 a3 a4 : Nat → Int32}
theorem cd_law677 {a b c : Int} {z0 z1 : Int32} (h : cd_abc a b c) (R : cd_R (cd_K3 a b c) a1 a2 a3) (l1 : a4 1 = nI 7) (l2 : a4 2 = nI 7) (hz : z1 = z0) (H : post 1 ()) :
    wL_lawOf_677 post mc ms z0 z1 kc ks nc (nI 3) x y w hl hh lx ly lw hx hy hw rm bX bY bW ap aq a1 a2 a3 a4 := by
  have ok := cd_ok_A (d := -1) (e := -1) (f := 0) h (cd_b9 _ (by decide) (by decide)) (cd_b9 _ (by decide) (by decide)) (cd_b99 _ (by decide) (by decide)) (by decide)
  have pre := cd_pre_A a b c (-1) (-1) 0
  refine br_t hz ?_
  refine cd_pop (l := 2) (m := 7) (by omega) (by omega) l2 (by omega) (by omega) ?_
  refine br_t rfl ?_
  refine cd_pop (l := 1) (m := 7) (by omega) (by omega) l1 (by omega) (by omega) ?_
  refine br_t rfl ?_
  refine cd_add (K := cd_K3 a b c) (a := -1) (b := -1) (c := 0) R (show 4 ≤ 7 by omega) (show 7 < 14 by omega) rfl rfl rfl (cd_b9 _ (by decide) (by decide)) (cd_b9 _ (by decide) (by decide)) (cd_b99 _ (by decide) (by decide)) (by decide) (fun a1 a2 a3 R' => ?_)
  have RD : cd_R (cd_KA a b c (-1) (-1) 0) a1 a2 a3 := R'
  refine br_t rfl ?_
  refine cd_spare (K := cd_KA a b c (-1) (-1) 0) ok RD (fun hl hh x y w lx ly lw hx hy hw => ?_)
  refine br_t (congrArg nI (cd_spareD h)) ?_
  refine cd_possible (K := cd_KA a b c (-1) (-1) 0) ok RD (fun no => absurd (cd_PD h) (no _)) (fun _ hl hh x y w lx ly lw hx hy hw => ?_)
  refine br_t rfl ?_
  refine cd_best (K := cd_KA a b c (-1) (-1) 0) (p := 0) (q := 0) ok RD rfl rfl (cd_b9 _ (by decide) (by decide)) (cd_b9 _ (by decide) (by decide)) (fun no => absurd (cd_PD h) (no _)) (fun z pz oz hl hh x y w lx ly lw hx hy hw => ?_)
  obtain ⟨x0, y0⟩ := cd_b00 pre (show 7 ≤ 8 by omega) (Int.le_refl 0) (Int.le_refl 0) oz (cd_PD h)
  refine br_t rfl ?_
  refine cd_num (z := z) (p := 0) (q := 0) (i := 0) (m := 0) (d := 1) pz (cd_b9 _ (by decide) (by decide)) (cd_b9 _ (by decide) (by decide)) (by omega) (by omega) (cd_v0 (by show 0 * z.1 + 0 * z.2.1 = 0; omega)) ?_
  refine br_t rfl ?_
  refine cd_num (z := z) (p := 0) (q := 0) (i := 1) (m := 0) (d := 1) pz (cd_b9 _ (by decide) (by decide)) (cd_b9 _ (by decide) (by decide)) (by omega) (by omega) (cd_v0 x0) ?_
  refine br_t rfl ?_
  refine cd_num (z := z) (p := 0) (q := 0) (i := 2) (m := 0) (d := 1) pz (cd_b9 _ (by decide) (by decide)) (cd_b9 _ (by decide) (by decide)) (by omega) (by omega) (cd_v0 y0) ?_
  exact br_t rfl H
end
end
section
theorem cd_mul_le {e a : Nat} (he : e < 99) (ha : a ≤ 8) : e * a < 2 ^ 31 := by
  have := Nat.mul_le_mul (show e ≤ 99 by omega) ha
  omega
theorem cd_quo {m d : Nat} (hm : m < 2 ^ 31) (h0 : 0 < d) (hd : d < 2 ^ 31) : nI (m / Nat.gcd m d) = nI m / nI (Nat.gcd m d) :=
  (pk_div hm (Nat.gcd_pos_of_pos_right m h0) (Nat.lt_of_le_of_lt (Nat.gcd_le_right m h0) hd)).symm
theorem cd_quo' {m d : Nat} (hm : 0 < m) (h0 : 0 < d) (hd : d < 2 ^ 31) : nI (d / Nat.gcd m d) = nI d / nI (Nat.gcd m d) :=
  (pk_div hd (Nat.gcd_pos_of_pos_right m h0) (Nat.lt_of_le_of_lt (Nat.gcd_le_right m h0) hd)).symm
theorem cd_gne {m d : Nat} (h0 : 0 < d) (hd : d < 2 ^ 31) : ¬ nI (Nat.gcd m d) = 0 :=
  nI_ne0 (Nat.gcd_pos_of_pos_right m h0) (Nat.lt_of_le_of_lt (Nat.gcd_le_right m h0) hd)
section
variable {mc ms kc ks : Nat} {post : Int32 → St0 → Prop} {nc lv hl hh rm ap aq : Int32} {x y w lx ly lw hx hy hw bX bY bW : Int64} {a1 a2 a3 a4 : Nat → Int32}
theorem cd_law416 {a b c u : Nat} {x4 z0 z1 : Int32} (h : cd_abc a b c) (hu : u ≤ 31) (R : cd_R (cd_KA a b c a b (c + u)) a1 a2 a3) (l1 : a4 1 = nI 7) (hz : z1 = z0) (H : post 1 ()) :
    wL_lawOf_416 post mc ms x4 (nI a) (nI b) (nI c) (nI (Nat.gcd c a)) (nI (Nat.gcd c b)) z0 z1 kc ks (nI 8) (nI 2) x y w hl hh lx ly lw hx hy hw rm bX bY bW ap aq a1 a2 a3 a4 := by
  have h' := h
  obtain ⟨g1, g2, g3, g4, g5, g6⟩ := h'
  have ok5 := cd_ok_5 (u := u) h (by omega) (by omega)
  have ok6 := cd_ok_6 (u := u) h (by omega) (by omega)
  have ok3 := cd_ok_3 h
  have pre5 := cd_pre_5 a b c u
  have pre3 := cd_pre_3 a b c
  have p5 := cd_P5 (u := u) h (by omega)
  have p3 := cd_P3 h
  have ba : cd_b 9 (a : Int) := cd_b9 _ (by omega) (by omega)
  have bb : cd_b 9 (b : Int) := cd_b9 _ (by omega) (by omega)
  have bc : cd_b 99 (c : Int) := cd_b99 _ (by omega) (by omega)
  have b0 : cd_b 9 0 := cd_b9 _ (by decide) (by decide)
  have b1 : cd_b 9 1 := cd_b9 _ (by decide) (by decide)
  have bm : cd_b 9 (-1) := cd_b9 _ (by decide) (by decide)
  refine br_t hz ?_
  refine cd_add (K := cd_KA a b c a b (c + u)) (a := -(a : Int)) (b := -(b : Int)) (c := -(c : Int)) R (show 4 ≤ 8 by omega) (show 8 < 14 by omega) (by rw [← cd_I_nI, cd_I_neg]) (by rw [← cd_I_nI, cd_I_neg]) (by rw [← cd_I_nI, cd_I_neg]) (cd_b_neg ba) (cd_b_neg bb) (cd_b_neg bc) (by omega) (fun a1 a2 a3 R' => ?_)
  have R5 : cd_R (cd_K5 a b c u) a1 a2 a3 := R'
  clear R R'
  refine br_t rfl ?_
  refine cd_best (K := cd_K5 a b c u) (p := 1) (q := 0) ok5 R5 rfl rfl b1 b0 (fun no => absurd p5.1 (no _)) (fun z pz oz hl hh x y w lx ly lw hx hy hw => ?_)
  obtain ⟨f1, f2⟩ := cd_b10 h pre5 (show 7 ≤ 9 by omega) oz p5.1
  refine br_t rfl ?_
  refine cd_num (z := z) (p := 1) (q := 0) (i := 1) (m := c) (d := a) pz b1 b0 (by omega) (by omega) f1 ?_
  refine ⟨cd_gne (by omega) (by omega), br_t (cd_quo (by omega) (by omega) (by omega)) ?_⟩
  have f3 : (a : Int) * z.1 + b * z.2.1 = c * z.2.2 := by
    rw [f2, Int.mul_comm (a : Int)]
    omega
  refine cd_test (z := z) (a := a) (b := b) (c := c) pz (cd_I_nI a).symm (cd_I_nI b).symm (cd_I_nI c).symm ba bb bc (by omega) (fun _ => ?_) (fun t => absurd t (by omega)) (fun t => absurd t (by omega))
  refine br_t rfl ?_
  clear f1 f2 f3 oz pz
  refine cd_best (K := cd_K5 a b c u) (p := -1) (q := 0) ok5 R5 rfl rfl bm b0 (fun no => absurd p5.1 (no _)) (fun z pz oz hl hh x y w lx ly lw hx hy hw => ?_)
  obtain ⟨f1, f2⟩ := cd_bm0 h pre5 (show 7 ≤ 9 by omega) oz (cd_line5 oz.1) p5.2
  refine br_t rfl ?_
  refine cd_num (z := z) (p := -1) (q := 0) (i := 1) (m := 0) (d := 1) pz bm b0 (by omega) (by omega) (cd_v0 f2) ?_
  refine br_t rfl ?_
  refine cd_num (z := z) (p := -1) (q := 0) (i := 2) (m := c) (d := b) pz bm b0 (by omega) (by omega) f1 ?_
  refine ⟨cd_gne (by omega) (by omega), br_t (cd_quo (by omega) (by omega) (by omega)) ?_⟩
  clear f1 f2 oz
  refine cd_add (K := cd_K5 a b c u) (a := 1) (b := 0) (c := -1) R5 (show 4 ≤ 9 by omega) (show 9 < 14 by omega) rfl rfl rfl b1 b0 (cd_b99 _ (by decide) (by decide)) (by decide) (fun a1 a2 a3 R' => ?_)
  have R6 : cd_R (cd_K6 a b c u) a1 a2 a3 := R'
  clear R' R5
  refine br_t rfl ?_
  refine cd_possible (K := cd_K6 a b c u) ok6 R6 (fun _ hl hh x y w lx ly lw hx hy hw => ?_) (fun no => absurd no (fun ⟨z, hz⟩ => cd_inf6 (by decide) (by decide) z hz))
  refine br_t rfl ?_
  refine cd_best (K := cd_K6 a b c u) (p := 1) (q := 1) ok6 R6 rfl rfl b1 b1 (fun _ hl hh x y w lx ly lw hx hy hw => ?_) (fun z _ oz => absurd oz.1 (cd_inf6 (by decide) (by decide) z))
  refine br_t rfl ?_
  refine cd_den0 ?_
  refine br_t rfl ?_
  refine cd_spare (K := cd_K6 a b c u) ok6 R6 (fun hl hh x y w lx ly lw hx hy hw => ?_)
  have k1 := cd_spare6 (a := a) (b := b) (c := c) u
  have k2 := cd_cnt_le (cd_K6 a b c u) 6
  refine br_f (nI_nlt (a := cd_cnt (cd_K6 a b c u) 6) (b := 3) (by omega) (by omega)) ?_
  refine cd_pop (l := 1) (m := 7) (by omega) (by omega) l1 (by omega) (by omega) ?_
  refine br_t rfl ?_
  refine cd_pop0 ?_
  refine br_t rfl ?_
  have R3 : cd_R (cd_K3 a b c) a1 a2 a3 := cd_R_pre (K := cd_K3 a b c) (K' := [((a : Int), (b : Int), (c : Int) + u), (-(a : Int), -(b : Int), -(c : Int)), (1, 0, -1)]) R6
  clear R6 k1 k2 pz
  refine cd_best (K := cd_K3 a b c) (p := 0) (q := 1) ok3 R3 rfl rfl b0 b1 (fun no => absurd p3.1 (no _)) (fun z pz oz hl hh x y w lx ly lw hx hy hw => ?_)
  obtain ⟨f1, f2⟩ := cd_b01 h pre3 (show 7 ≤ 7 by omega) oz p3.2.2
  refine br_t rfl ?_
  refine cd_num (z := z) (p := 0) (q := 1) (i := 2) (m := c) (d := b) pz b0 b1 (by omega) (by omega) f1 ?_
  refine ⟨cd_gne (by omega) (by omega), br_t (cd_quo (by omega) (by omega) (by omega)) ?_⟩
  obtain ⟨j, hj, ej⟩ := pk_andE x4 (m := 255) 8 (by decide)
  have he : j % 99 < 99 := Nat.mod_lt j (by omega)
  refine ⟨by decide, nm_r (e' := nI (j % 99)) (by rw [ej]; exact pk_rem (d := 99) (by omega) (by omega) (by omega)) ?_⟩
  generalize j % 99 = e at he
  refine cd_push (l := 1) (by omega) ?_
  refine br_t rfl ?_
  refine cd_push (l := 2) (by omega) ?_
  refine br_t rfl ?_
  refine cd_add (K := cd_K3 a b c) (a := 1) (b := 0) (c := e) R3 (show 4 ≤ 7 by omega) (show 7 < 14 by omega) rfl rfl (cd_I_nI e).symm b1 b0 (cd_b99 _ (by omega) (by omega)) (by decide) (fun a1 a2 a3 R' => ?_)
  have RE : cd_R (cd_KA a b c 1 0 e) a1 a2 a3 := R'
  refine br_t rfl ?_
  have okE := cd_ok_A (d := 1) (e := 0) (f := e) h b1 b0 (cd_b99 _ (by omega) (by omega)) (by decide)
  refine cd_spare (K := cd_KA a b c 1 0 e) okE RE (fun hl hh x y w lx ly lw hx hy hw => ?_)
  have hc := cd_spareE (e := e) h (by omega)
  have R3' : cd_R (cd_K3 a b c) a1 a2 a3 := cd_R_pre (K := cd_K3 a b c) (K' := [(1, 0, (e : Int))]) RE
  have q1 : upd (upd a4 1 (nI 7)) 2 (nI 7) 1 = nI 7 := rfl
  have q2 : upd (upd a4 1 (nI 7)) 2 (nI 7) 2 = nI 7 := rfl
  refine pk_lt (e * a) c (fun t => ?_) (fun t => ?_) (pk_mul e a) rfl (cd_mul_le he (by omega)) (by omega)
  · have t' : ¬ (c : Int) ≤ e * a := by
      rw [← Int.natCast_mul]
      omega
    rw [if_neg t'] at hc
    exact cd_law677 h R3' q1 q2 (congrArg nI hc) H
  · have t' : (c : Int) ≤ e * a := by
      rw [← Int.natCast_mul]
      omega
    rw [if_pos t'] at hc
    exact cd_law677 h R3' q1 q2 (congrArg nI hc) H
end
end
section
theorem cd_R_0 {a1 a2 a3 : Nat → Int32} (e1 : a1 0 = 1 ∧ a1 1 = -1 ∧ a1 2 = 0 ∧ a1 3 = 0) (e2 : a2 0 = 0 ∧ a2 1 = 0 ∧ a2 2 = 1 ∧ a2 3 = -1) (e3 : a3 0 = 50 ∧ a3 1 = 50 ∧ a3 2 = 50 ∧ a3 3 = 50) : cd_R cd_K0 a1 a2 a3 := by
  intro j hj
  have h : j = 0 ∨ j = 1 ∨ j = 2 ∨ j = 3 := by
    have : j < 4 := hj
    omega
  rcases h with e | e | e | e <;> subst e
  · exact ⟨e1.1, e2.1, e3.1⟩
  · exact ⟨e1.2.1, e2.2.1, e3.2.1⟩
  · exact ⟨e1.2.2.1, e2.2.2.1, e3.2.2.1⟩
  · exact ⟨e1.2.2.2, e2.2.2.2, e3.2.2.2⟩
theorem cd_init {post : St2 → Prop} {mc ms : Nat} (hmc : 4 ≤ mc) (hms : 50 ≤ ms) (H : ∀ a1 a2 a3 a4, cd_R cd_K0 a1 a2 a3 → post (nI 4, nI 1, 0, 0, 0, 0, 0, 0, 0, 0, 0, 0, 0, 0, 0, 0, 0, 0, 0, a1, a2, a3, a4)) :
    wpX_init post mc ms (0, 0, 0, 0, 0, 0, 0, 0, 0, 0, 0, 0, 0, 0, 0, 0, 0, 0, 0) := by
  refine ⟨by omega, by omega, by omega, by omega, by omega, by omega, by omega, by omega, nm_e (nm_e (nm_e (nm_e ⟨5, ?_⟩)))⟩
  refine pk_le 4 0 (fun t => absurd t (by omega)) (fun _ => ⟨pk_in 0 14 (by omega), nm_e (nm_r (nI_1 0) ?_)⟩)
  refine pk_le 4 1 (fun t => absurd t (by omega)) (fun _ => ⟨pk_in 1 14 (by omega), nm_e (nm_r (nI_1 1) ?_)⟩)
  refine pk_le 4 2 (fun t => absurd t (by omega)) (fun _ => ⟨pk_in 2 14 (by omega), nm_e (nm_r (nI_1 2) ?_)⟩)
  refine pk_le 4 3 (fun t => absurd t (by omega)) (fun _ => ⟨pk_in 3 14 (by omega), nm_e (nm_r (nI_1 3) ?_)⟩)
  refine pk_le 4 4 (fun _ => nm_e ?_) (fun t => absurd t (by omega))
  exact H _ _ _ _ (cd_R_0 ⟨rfl, rfl, rfl, rfl⟩ ⟨rfl, rfl, rfl, rfl⟩ ⟨rfl, rfl, rfl, rfl⟩)
theorem cd_lawOf {post : Int32 → St0 → Prop} {p0 p1 p2 p3 p4 : Int32} (H : post 1 ()) : wpL_lawOf post 52 816 () p0 p1 p2 p3 p4 := by
  obtain ⟨ja, hja, eja⟩ := pk_andE p0 (m := 7) 3 (by decide)
  obtain ⟨jb, hjb, ejb⟩ := pk_andE p1 (m := 7) 3 (by decide)
  obtain ⟨jc, hjc, ejc⟩ := pk_andE p2 (m := 255) 8 (by decide)
  obtain ⟨u, hu, eu⟩ := pk_andE p3 (m := 31) 5 (by decide)
  have ea : 1 + (p0 &&& 7) = nI (1 + ja) := by
    rw [eja]
    exact nI_add 1 ja
  have eb : 1 + (p1 &&& 7) = nI (1 + jb) := by
    rw [ejb]
    exact nI_add 1 jb
  have ec : 1 + ((p2 &&& 255) - (p2 &&& 255) / 49 * 49) = nI (1 + jc % 49) := by
    have t : nI jc - nI jc / 49 * 49 = nI (jc % 49) := pk_rem (d := 49) (by omega) (by omega) (by omega)
    rw [ejc, t]
    exact nI_add 1 (jc % 49)
  have hc49 : jc % 49 < 49 := Nat.mod_lt jc (by omega)
  obtain ⟨a, da⟩ : ∃ a, a = 1 + ja := ⟨_, rfl⟩
  obtain ⟨b, db⟩ : ∃ b, b = 1 + jb := ⟨_, rfl⟩
  obtain ⟨c, dc⟩ : ∃ c, c = 1 + jc % 49 := ⟨_, rfl⟩
  rw [← da] at ea
  rw [← db] at eb
  rw [← dc] at ec
  have h : cd_abc a b c := by
    unfold cd_abc
    omega
  have hu31 : u ≤ 31 := by omega
  clear eja ejb ejc hja hjb hjc hc49 da db dc
  have h' := h
  obtain ⟨g1, g2, g3, g4, g5, g6⟩ := h'
  have ok3 := cd_ok_3 h
  have pre3 := cd_pre_3 a b c
  have p3' := cd_P3 h
  have ba : cd_b 9 (a : Int) := cd_b9 _ (by omega) (by omega)
  have bb : cd_b 9 (b : Int) := cd_b9 _ (by omega) (by omega)
  have bc : cd_b 99 (c : Int) := cd_b99 _ (by omega) (by omega)
  have b0 : cd_b 9 0 := cd_b9 _ (by decide) (by decide)
  have b1 : cd_b 9 1 := cd_b9 _ (by decide) (by decide)
  have bm : cd_b 9 (-1) := cd_b9 _ (by decide) (by decide)
  have bm2 : cd_b 9 (-2) := cd_b9 _ (by decide) (by decide)
  have z99 : cd_b 99 0 := cd_b99 _ (by decide) (by decide)
  refine nm_r ea (nm_r eb ⟨by decide, nm_r ec ⟨by omega, by omega, 51, 793, by omega, by omega, ?_⟩⟩)
  refine cd_init (by omega) (by omega) (fun a1 a2 a3 a4 R0 => ?_)
  refine cd_add (K := cd_K0) (a := -1) (b := 0) (c := 0) R0 (show 4 ≤ 4 by omega) (show 4 < 14 by omega) rfl rfl rfl bm b0 z99 (by decide) (fun a1 a2 a3 R1 => ?_)
  refine br_t rfl ?_
  refine cd_add (K := cd_K0 ++ [(-1, 0, 0)]) (a := 0) (b := -1) (c := 0) R1 (show 4 ≤ 5 by omega) (show 5 < 14 by omega) rfl rfl rfl b0 bm z99 (by decide) (fun a1 a2 a3 R2 => ?_)
  refine br_t rfl ?_
  refine cd_add (K := cd_K0 ++ [(-1, 0, 0)] ++ [(0, -1, 0)]) (a := a) (b := b) (c := c) R2 (show 4 ≤ 6 by omega) (show 6 < 14 by omega) (cd_I_nI a).symm (cd_I_nI b).symm (cd_I_nI c).symm ba bb bc (by omega) (fun a1 a2 a3 R' => ?_)
  have R3 : cd_R (cd_K3 a b c) a1 a2 a3 := R'
  clear R' R2 R1 R0
  refine br_t rfl ?_
  refine cd_possible (K := cd_K3 a b c) ok3 R3 (fun no => absurd p3'.1 (no _)) (fun _ hl hh x y w lx ly lw hx hy hw => ?_)
  refine br_t rfl ?_
  refine cd_spare (K := cd_K3 a b c) ok3 R3 (fun hl hh x y w lx ly lw hx hy hw => ?_)
  refine br_t (congrArg nI (cd_spare3 h)) ?_
  refine cd_gcdL (m := c) (d := a) (by omega) (by omega) ?_
  refine cd_gcdL (m := c) (d := b) (by omega) (by omega) ?_
  -- the aim (1, 0)
  refine cd_best (K := cd_K3 a b c) (p := 1) (q := 0) ok3 R3 rfl rfl b1 b0 (fun no => absurd p3'.1 (no _)) (fun z pz oz hl hh x y w lx ly lw hx hy hw => ?_)
  obtain ⟨f1, f2⟩ := cd_b10 h pre3 (show 7 ≤ 7 by omega) oz p3'.2.1
  refine br_t rfl ?_
  refine cd_num (z := z) (p := 1) (q := 0) (i := 1) (m := c) (d := a) pz b1 b0 (by omega) (by omega) f1 ?_
  refine ⟨cd_gne (by omega) (by omega), br_t (cd_quo (by omega) (by omega) (by omega)) ?_⟩
  refine cd_den (z := z) (p := 1) (q := 0) (i := 1) (m := c) (d := a) pz b1 b0 (by omega) (by omega) f1 ?_
  refine ⟨cd_gne (by omega) (by omega), br_t (cd_quo' (by omega) (by omega) (by omega)) ?_⟩
  refine cd_num (z := z) (p := 1) (q := 0) (i := 2) (m := 0) (d := 1) pz b1 b0 (by omega) (by omega) (cd_v0 f2) ?_
  refine br_t rfl ?_
  refine cd_den (z := z) (p := 1) (q := 0) (i := 2) (m := 0) (d := 1) pz b1 b0 (by omega) (by omega) (cd_v0 f2) ?_
  refine br_t rfl ?_
  clear f1 f2 oz pz
  -- the aim (0, 1)
  refine cd_best (K := cd_K3 a b c) (p := 0) (q := 1) ok3 R3 rfl rfl b0 b1 (fun no => absurd p3'.1 (no _)) (fun z pz oz hl hh x y w lx ly lw hx hy hw => ?_)
  obtain ⟨f1, f2⟩ := cd_b01 h pre3 (show 7 ≤ 7 by omega) oz p3'.2.2
  have f3 : (a : Int) * z.1 + b * z.2.1 = c * z.2.2 := by
    rw [f2, Int.mul_comm (b : Int)]
    omega
  refine br_t rfl ?_
  refine cd_num (z := z) (p := 0) (q := 1) (i := 2) (m := c) (d := b) pz b0 b1 (by omega) (by omega) f1 ?_
  refine ⟨cd_gne (by omega) (by omega), br_t (cd_quo (by omega) (by omega) (by omega)) ?_⟩
  refine cd_den (z := z) (p := 0) (q := 1) (i := 0) (m := c) (d := b) pz b0 b1 (by omega) (by omega) (by show (0 * z.1 + 1 * z.2.1) * (b : Int) = _; rw [Int.zero_mul, Int.zero_add, Int.one_mul]; exact f1) ?_
  refine ⟨cd_gne (by omega) (by omega), br_t (cd_quo' (by omega) (by omega) (by omega)) ?_⟩
  refine cd_num (z := z) (p := 0) (q := 1) (i := 1) (m := 0) (d := 1) pz b0 b1 (by omega) (by omega) (cd_v0 f2) ?_
  refine br_t rfl ?_
  refine cd_test (z := z) (a := a) (b := b) (c := c) pz (cd_I_nI a).symm (cd_I_nI b).symm (cd_I_nI c).symm ba bb bc (by omega) (fun _ => ?_) (fun t => absurd t (by omega)) (fun t => absurd t (by omega))
  refine br_t rfl ?_
  clear f1 f2 f3 oz pz
  -- the aim (-1, -2)
  refine cd_best (K := cd_K3 a b c) (p := -1) (q := -2) ok3 R3 rfl rfl bm bm2 (fun no => absurd p3'.1 (no _)) (fun z pz oz hl hh x y w lx ly lw hx hy hw => ?_)
  obtain ⟨f1, f2⟩ := cd_b00 pre3 (show 7 ≤ 7 by omega) (by decide) (by decide) oz p3'.1
  have f0 : cd_val z (-1) (-2) 0 = 0 := by
    show -1 * z.1 + -2 * z.2.1 = 0
    omega
  have wz : 0 < z.2.2 := pz.2.2.1
  have f3 : (a : Int) * z.1 + b * z.2.1 < c * z.2.2 := by
    have := Int.mul_pos (show 0 < (c : Int) by omega) wz
    rw [f1, f2]
    omega
  refine br_t rfl ?_
  refine cd_num (z := z) (p := -1) (q := -2) (i := 0) (m := 0) (d := 1) pz bm bm2 (by omega) (by omega) (cd_v0 f0) ?_
  refine br_t rfl ?_
  refine cd_den (z := z) (p := -1) (q := -2) (i := 0) (m := 0) (d := 1) pz bm bm2 (by omega) (by omega) (cd_v0 f0) ?_
  refine br_t rfl ?_
  refine cd_test (z := z) (a := a) (b := b) (c := c) pz (cd_I_nI a).symm (cd_I_nI b).symm (cd_I_nI c).symm ba bb bc (by omega) (fun t => absurd t (by omega)) (fun _ => ?_) (fun t => absurd t (by omega))
  refine br_t rfl ?_
  refine cd_test (z := z) (a := -1) (b := 0) (c := 0) pz rfl rfl rfl bm b0 z99 (by decide) (fun _ => ?_) (fun t => absurd t (by omega)) (fun t => absurd t (by omega))
  refine br_t rfl ?_
  clear f0 f1 f2 f3 oz pz wz
  -- the aim (a, b)
  refine cd_best (K := cd_K3 a b c) (p := a) (q := b) ok3 R3 (cd_I_nI a).symm (cd_I_nI b).symm ba bb (fun no => absurd p3'.1 (no _)) (fun z pz oz hl hh x y w lx ly lw hx hy hw => ?_)
  obtain ⟨f1, f2⟩ := cd_bab h pre3 (show 7 ≤ 7 by omega) oz p3'.2.2
  have f3 : cd_val z a b 0 * ((1 : Nat) : Int) = c * z.2.2 := by
    show ((a : Int) * z.1 + b * z.2.1) * 1 = c * z.2.2
    rw [f2, Int.mul_comm (b : Int)]
    omega
  have e1 : nI (c / Nat.gcd c 1) = nI c := by
    rw [Nat.gcd_one_right, Nat.div_one]
  refine br_t rfl ?_
  refine cd_num (z := z) (p := a) (q := b) (i := 0) (m := c) (d := 1) pz ba bb (by omega) (by omega) f3 ?_
  refine br_t e1 ?_
  refine cd_num (z := z) (p := a) (q := b) (i := 1) (m := 0) (d := 1) pz ba bb (by omega) (by omega) (cd_v0 f2) ?_
  refine br_t rfl ?_
  refine cd_num (z := z) (p := a) (q := b) (i := 2) (m := c) (d := b) pz ba bb (by omega) (by omega) f1 ?_
  refine ⟨cd_gne (by omega) (by omega), br_t (cd_quo (by omega) (by omega) (by omega)) ?_⟩
  refine cd_best10 ?_
  refine br_t rfl ?_
  refine cd_num (z := z) (p := a) (q := b) (i := 0) (m := c) (d := 1) pz ba bb (by omega) (by omega) f3 ?_
  refine br_t e1 ?_
  refine cd_push (l := 1) (by omega) ?_
  refine br_t rfl ?_
  have e2 : nI c + (p3 &&& 31) = cd_I ((c : Int) + u) := by
    rw [eu, ← cd_I_nI, ← cd_I_nI, cd_I_add]
  refine cd_add (K := cd_K3 a b c) (a := a) (b := b) (c := (c : Int) + u) R3 (show 4 ≤ 7 by omega) (show 7 < 14 by omega) (cd_I_nI a).symm (cd_I_nI b).symm e2 ba bb (cd_b99 _ (by omega) (by omega)) (by omega) (fun a1 a2 a3 R' => ?_)
  have RA : cd_R (cd_KA a b c a b (c + u)) a1 a2 a3 := R'
  clear R' R3
  refine br_t rfl ?_
  have okA := cd_ok_A (d := a) (e := b) (f := (c : Int) + u) h ba bb (cd_b99 _ (by omega) (by omega)) (by omega)
  refine cd_spare (K := cd_KA a b c a b (c + u)) okA RA (fun hl hh x y w lx ly lw hx hy hw => ?_)
  have hs := cd_spare4 (u := u) h (by omega)
  have q1 : upd a4 1 (nI 7) 1 = nI 7 := rfl
  refine pk_eq u 0 (fun t => ?_) (fun t => ?_) eu rfl (by omega) (by omega)
  · rw [if_pos (show (u : Int) = 0 by omega)] at hs
    exact cd_law416 h hu31 RA q1 (congrArg nI hs) H
  · rw [if_neg (show ¬ (u : Int) = 0 by omega)] at hs
    exact cd_law416 h hu31 RA q1 (congrArg nI hs) H
theorem cd_cell {post : Int32 → Prop} {L : Nat} {xs : Nat → Int32} (hL : L ≤ 5) (i : Nat) (hi : i ≤ 4) (H : ∀ r, post r) : wpL_cellAt post L xs () (nI i) :=
  pk_le L i (fun _ => H 0) (fun t => ⟨pk_in i L t, H _⟩)
theorem i_vc (xs : Nat → Int32) (L : Nat) (hL : L ≤ 5) : wpL_law (fun r => r = 1) L xs := by
  refine cd_cell hL 0 (by omega) (fun r0 => ?_)
  refine cd_cell hL 1 (by omega) (fun r1 => ?_)
  refine cd_cell hL 2 (by omega) (fun r2 => ?_)
  refine cd_cell hL 3 (by omega) (fun r3 => ?_)
  refine cd_cell hL 4 (by omega) (fun r4 => ?_)
  exact ⟨52, 816, by omega, by omega, cd_lawOf rfl⟩
end
