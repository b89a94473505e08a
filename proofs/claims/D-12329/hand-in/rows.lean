section
/-- an Int as a long, as an int -/
def am_L (z : Int) : Int64 := Int64.ofInt z
def am_I (z : Int) : Int32 := Int32.ofInt z
/-- fits a long, an int, a byte -/
def am_R (z : Int) : Prop := -9223372036854775808 ≤ z ∧ z ≤ 9223372036854775807
def am_R3 (z : Int) : Prop := -2147483648 ≤ z ∧ z ≤ 2147483647
theorem am_minL : Int64.minValue.toInt = -9223372036854775808 := by decide
theorem am_maxL : Int64.maxValue.toInt = 9223372036854775807 := by decide
theorem am_minI : Int32.minValue.toInt = -2147483648 := by decide
theorem am_maxI : Int32.maxValue.toInt = 2147483647 := by decide
theorem am_Ladd (a b : Int) : am_L a + am_L b = am_L (a + b) := (Int64.ofInt_add a b).symm
theorem am_Lsub (a b : Int) : am_L a - am_L b = am_L (a - b) := (Int64.ofInt_sub a b).symm
theorem am_Lmul (a b : Int) : am_L a * am_L b = am_L (a * b) := (Int64.ofInt_mul a b).symm
theorem am_Lneg (a : Int) : -am_L a = am_L (-a) := (Int64.ofInt_neg a).symm
theorem am_Lle {a b : Int} (ha : am_R a) (hb : am_R b) : am_L a ≤ am_L b ↔ a ≤ b :=
  Int64.ofInt_le_iff_le (by rw [am_minL]; exact ha.1) (by rw [am_maxL]; exact ha.2) (by rw [am_minL]; exact hb.1) (by rw [am_maxL]; exact hb.2)
theorem am_Llt {a b : Int} (ha : am_R a) (hb : am_R b) : am_L a < am_L b ↔ a < b :=
  Int64.ofInt_lt_iff_lt (by rw [am_minL]; exact ha.1) (by rw [am_maxL]; exact ha.2) (by rw [am_minL]; exact hb.1) (by rw [am_maxL]; exact hb.2)
theorem am_Lint {a : Int} (ha : am_R a) : (am_L a).toInt = a := Int64.toInt_ofInt_of_le (by have := ha.1; omega) (by have := ha.2; omega)
theorem am_Leq {a b : Int} (ha : am_R a) (hb : am_R b) : am_L a = am_L b ↔ a = b := by
  constructor
  · intro h
    rw [← am_Lint ha, ← am_Lint hb, h]
  · intro h
    rw [h]
theorem am_Ldiv {a b : Int} (ha : am_R a) (hb : am_R b) : am_L a / am_L b = am_L (a.tdiv b) :=
  (Int64.ofInt_tdiv (by rw [am_minL]; exact ha.1) (by rw [am_maxL]; exact ha.2) (by rw [am_minL]; exact hb.1) (by rw [am_maxL]; exact hb.2)).symm
theorem am_Iadd (a b : Int) : am_I a + am_I b = am_I (a + b) := (Int32.ofInt_add a b).symm
theorem am_Isub (a b : Int) : am_I a - am_I b = am_I (a - b) := (Int32.ofInt_sub a b).symm
theorem am_Imul (a b : Int) : am_I a * am_I b = am_I (a * b) := (Int32.ofInt_mul a b).symm
theorem am_Ineg (a : Int) : -am_I a = am_I (-a) := (Int32.ofInt_neg a).symm
theorem am_Ile {a b : Int} (ha : am_R3 a) (hb : am_R3 b) : am_I a ≤ am_I b ↔ a ≤ b :=
  Int32.ofInt_le_iff_le (by rw [am_minI]; exact ha.1) (by rw [am_maxI]; exact ha.2) (by rw [am_minI]; exact hb.1) (by rw [am_maxI]; exact hb.2)
theorem am_Ilt {a b : Int} (ha : am_R3 a) (hb : am_R3 b) : am_I a < am_I b ↔ a < b :=
  Int32.ofInt_lt_iff_lt (by rw [am_minI]; exact ha.1) (by rw [am_maxI]; exact ha.2) (by rw [am_minI]; exact hb.1) (by rw [am_maxI]; exact hb.2)
theorem am_Iint {a : Int} (ha : am_R3 a) : (am_I a).toInt = a := Int32.toInt_ofInt_of_le (by have := ha.1; omega) (by have := ha.2; omega)
theorem am_Ieq {a b : Int} (ha : am_R3 a) (hb : am_R3 b) : am_I a = am_I b ↔ a = b := by
  constructor
  · intro h
    rw [← am_Iint ha, ← am_Iint hb, h]
  · intro h
    rw [h]
theorem am_Idiv {a b : Int} (ha : am_R3 a) (hb : am_R3 b) : am_I a / am_I b = am_I (a.tdiv b) :=
  (Int32.ofInt_tdiv (by rw [am_minI]; exact ha.1) (by rw [am_maxI]; exact ha.2) (by rw [am_minI]; exact hb.1) (by rw [am_maxI]; exact hb.2)).symm
theorem am_IL {a : Int} (ha : am_R3 a) : (am_I a).toInt64 = am_L a :=
  Int32.toInt64_ofInt (by rw [am_minI]; exact ha.1) (by rw [am_maxI]; exact ha.2)
theorem am_LI (a : Int) : (am_L a).toInt32 = am_I a := Int64.toInt32_ofInt
theorem am_nI (n : Nat) : nI n = am_I (n : Int) := Int32.ofInt_eq_ofNat.symm
theorem am_lN (n : Nat) : lN n = am_L (n : Int) := Int64.ofInt_eq_ofNat.symm
theorem am_Iof (x : Int32) : x = am_I x.toInt := (Int32.ofInt_toInt x).symm
theorem am_Lof (x : Int64) : x = am_L x.toInt := (Int64.ofInt_toInt x).symm
theorem am_IR3 (x : Int32) : am_R3 x.toInt := by
  have h1 := Int32.minValue_le_toInt x
  have h2 := Int32.toInt_le x
  rw [am_minI] at h1
  rw [am_maxI] at h2
  exact ⟨h1, h2⟩
theorem am_I8 {a : Int} (h1 : -128 ≤ a) (h2 : a ≤ 127) : (am_I a).toInt8.toInt32 = am_I a := by
  have e : (am_I a).toInt8 = Int8.ofInt a := Int32.toInt8_ofInt
  rw [e]
  exact Int8.toInt32_ofInt (by have : Int8.minValue.toInt = -128 := by decide
                               omega) (by have : Int8.maxValue.toInt = 127 := by decide
                                          omega)
theorem am_I8n {a : Int} (h1 : -128 ≤ a) (h2 : a ≤ 127) : vp_nar .byte (am_I a) = am_I a := by
  rw [vp_nar_byte, am_I8 h1 h2]
theorem am_abs {x y : Int} {A B : Nat} (hx : x.natAbs ≤ A) (hy : y.natAbs ≤ B) : (x * y).natAbs ≤ A * B := by
  rw [Int.natAbs_mul]
  exact Nat.mul_le_mul hx hy
theorem am_Rabs {x : Int} {A : Nat} (h : x.natAbs ≤ A) (hA : A ≤ 9223372036854775807) : am_R x := ⟨by omega, by omega⟩
theorem am_R3abs {x : Int} {A : Nat} (h : x.natAbs ≤ A) (hA : A ≤ 2147483647) : am_R3 x := ⟨by omega, by omega⟩
theorem am_R3nat {n : Nat} (h : n < 2147483648) : am_R3 (n : Int) := ⟨by omega, by omega⟩
theorem am_tdiv {b c : Int} (hb : b ≠ 0) : (b * c).tdiv b = c := Int.mul_tdiv_cancel_left c hb
theorem am_lg (a b : Int) : a < b ∨ b ≤ a := by omega
theorem am_L0 : am_L 0 = 0 := rfl
theorem am_L1 : am_L 1 = 1 := rfl
theorem am_Lm1 : am_L (-1) = -1 := rfl
theorem am_I0 : am_I 0 = 0 := rfl
theorem am_I1 : am_I 1 = 1 := rfl
theorem am_Im1 : am_I (-1) = -1 := rfl
/-- the pigeonhole -/
theorem am_hole : ∀ (N : Nat) (f : Nat → Nat), (∀ k, k ≤ N → f k < N) → ∃ i j, i < j ∧ j ≤ N ∧ f i = f j := by
  intro N
  induction N with
  | zero => intro f h; exact absurd (h 0 (Nat.le_refl 0)) (by omega)
  | succ N ih =>
    intro f h
    by_cases c : ∃ k, k ≤ N ∧ f k = f (N + 1)
    · obtain ⟨k, hk, e⟩ := c
      exact ⟨k, N + 1, by omega, Nat.le_refl _, e⟩
    · have ne : ∀ k, k ≤ N → f k ≠ f (N + 1) := fun k hk e => c ⟨k, hk, e⟩
      obtain ⟨i, j, h1, h2, h3⟩ := ih (fun k => if f (N + 1) < f k then f k - 1 else f k) (by
        intro k hk
        have a := h k (by omega)
        have b := h (N + 1) (Nat.le_refl _)
        have d := ne k hk
        show (if f (N + 1) < f k then f k - 1 else f k) < N
        split <;> omega)
      refine ⟨i, j, h1, by omega, ?_⟩
      have d1 := ne i (by omega)
      have d2 := ne j h2
      have h3' : (if f (N + 1) < f i then f i - 1 else f i) = (if f (N + 1) < f j then f j - 1 else f j) := h3
      split at h3' <;> split at h3' <;> omega
theorem am_greatest (P : Nat → Prop) (B : Nat) (hb : ∀ n, P n → n ≤ B) (h : ∃ n, P n) : ∃ n, P n ∧ ∀ k, P k → k ≤ n := by
  obtain ⟨n0, h0⟩ := h
  obtain ⟨k, hk, hm⟩ := pk_least (fun k => k ≤ B ∧ P (B - k)) ⟨B - n0, by omega, by
    have := hb n0 h0
    rw [show B - (B - n0) = n0 by omega]
    exact h0⟩
  refine ⟨B - k, hk.2, fun q hq => ?_⟩
  have hqB := hb q hq
  rcases Nat.lt_or_ge (B - k) q with z | z
  · exact absurd (show (B - q) ≤ B ∧ P (B - (B - q)) from ⟨by omega, by rw [show B - (B - q) = q by omega]; exact hq⟩) (hm (B - q) (by omega))
  · exact z
end
section
def la_dot (f w : Nat → Int) : Int := f 0 * w 0 + f 1 * w 1 + f 2 * w 2 + f 3 * w 3
def la_m3 (b c d : Nat → Int) (i j k : Nat) : Int := b i * (c j * d k - c k * d j) - b j * (c i * d k - c k * d i) + b k * (c i * d j - c j * d i)
def la_cof (b c d : Nat → Int) : Nat → Int := fun i => if i = 0 then la_m3 b c d 1 2 3 else if i = 1 then - la_m3 b c d 0 2 3 else if i = 2 then la_m3 b c d 0 1 3 else - la_m3 b c d 0 1 2
/-- the column k of the adjugate of the matrix of rows L 0 .. L 3 -/
def la_v (L : Nat → Nat → Int) (k : Nat) : Nat → Int :=
  if k = 0 then la_cof (L 1) (L 2) (L 3) else if k = 1 then (fun i => - la_cof (L 0) (L 2) (L 3) i) else if k = 2 then la_cof (L 0) (L 1) (L 3) else (fun i => - la_cof (L 0) (L 1) (L 2) i)
def la_D (L : Nat → Nat → Int) : Int := la_dot (L 0) (la_v L 0)
theorem la_d0 (f : Nat → Int) (L : Nat → Nat → Int) : la_dot f (la_v L 0) = f 0 * la_m3 (L 1) (L 2) (L 3) 1 2 3 - f 1 * la_m3 (L 1) (L 2) (L 3) 0 2 3 + f 2 * la_m3 (L 1) (L 2) (L 3) 0 1 3 - f 3 * la_m3 (L 1) (L 2) (L 3) 0 1 2 := by
  simp only [la_dot, la_v]
  simp [la_cof]
  grind
theorem la_d1 (f : Nat → Int) (L : Nat → Nat → Int) : la_dot f (la_v L 1) = -(f 0 * la_m3 (L 0) (L 2) (L 3) 1 2 3 - f 1 * la_m3 (L 0) (L 2) (L 3) 0 2 3 + f 2 * la_m3 (L 0) (L 2) (L 3) 0 1 3 - f 3 * la_m3 (L 0) (L 2) (L 3) 0 1 2) := by
  simp only [la_dot, la_v]
  simp [la_cof]
  grind
theorem la_d2 (f : Nat → Int) (L : Nat → Nat → Int) : la_dot f (la_v L 2) = f 0 * la_m3 (L 0) (L 1) (L 3) 1 2 3 - f 1 * la_m3 (L 0) (L 1) (L 3) 0 2 3 + f 2 * la_m3 (L 0) (L 1) (L 3) 0 1 3 - f 3 * la_m3 (L 0) (L 1) (L 3) 0 1 2 := by
  simp only [la_dot, la_v]
  simp [la_cof]
  grind
theorem la_d3 (f : Nat → Int) (L : Nat → Nat → Int) : la_dot f (la_v L 3) = -(f 0 * la_m3 (L 0) (L 1) (L 2) 1 2 3 - f 1 * la_m3 (L 0) (L 1) (L 2) 0 2 3 + f 2 * la_m3 (L 0) (L 1) (L 2) 0 1 3 - f 3 * la_m3 (L 0) (L 1) (L 2) 0 1 2) := by
  simp only [la_dot, la_v]
  simp [la_cof]
  grind
theorem la_off (L : Nat → Nat → Int) {i j : Nat} (hi : i < 4) (hj : j < 4) (h : i ≠ j) : la_dot (L i) (la_v L j) = 0 := by
  have hj' : j = 0 ∨ j = 1 ∨ j = 2 ∨ j = 3 := by omega
  have hi' : i = 0 ∨ i = 1 ∨ i = 2 ∨ i = 3 := by omega
  rcases hj' with rfl | rfl | rfl | rfl
  · rw [la_d0]
    rcases hi' with rfl | rfl | rfl | rfl
    · exact absurd rfl h
    all_goals (simp only [la_m3]; grind)
  · rw [la_d1]
    rcases hi' with rfl | rfl | rfl | rfl
    · simp only [la_m3]; grind
    · exact absurd rfl h
    all_goals (simp only [la_m3]; grind)
  · rw [la_d2]
    rcases hi' with rfl | rfl | rfl | rfl
    · simp only [la_m3]; grind
    · simp only [la_m3]; grind
    · exact absurd rfl h
    all_goals (simp only [la_m3]; grind)
  · rw [la_d3]
    rcases hi' with rfl | rfl | rfl | rfl
    · simp only [la_m3]; grind
    · simp only [la_m3]; grind
    · simp only [la_m3]; grind
    · exact absurd rfl h
theorem la_diag (L : Nat → Nat → Int) {i : Nat} (hi : i < 4) : la_dot (L i) (la_v L i) = la_D L := by
  have hi' : i = 0 ∨ i = 1 ∨ i = 2 ∨ i = 3 := by omega
  unfold la_D
  rcases hi' with rfl | rfl | rfl | rfl
  · rfl
  · rw [la_d1, la_d0]; simp only [la_m3]; grind
  · rw [la_d2, la_d0]; simp only [la_m3]; grind
  · rw [la_d3, la_d0]; simp only [la_m3]; grind
theorem la_cr0 (L : Nat → Nat → Int) (f : Nat → Int) : la_D L * f 0 = la_dot f (la_v L 0) * L 0 0 + la_dot f (la_v L 1) * L 1 0 + la_dot f (la_v L 2) * L 2 0 + la_dot f (la_v L 3) * L 3 0 := by
  unfold la_D
  rw [la_d0, la_d0, la_d1, la_d2, la_d3]; simp only [la_m3]; grind
theorem la_cr1 (L : Nat → Nat → Int) (f : Nat → Int) : la_D L * f 1 = la_dot f (la_v L 0) * L 0 1 + la_dot f (la_v L 1) * L 1 1 + la_dot f (la_v L 2) * L 2 1 + la_dot f (la_v L 3) * L 3 1 := by
  unfold la_D
  rw [la_d0, la_d0, la_d1, la_d2, la_d3]; simp only [la_m3]; grind
theorem la_cr2 (L : Nat → Nat → Int) (f : Nat → Int) : la_D L * f 2 = la_dot f (la_v L 0) * L 0 2 + la_dot f (la_v L 1) * L 1 2 + la_dot f (la_v L 2) * L 2 2 + la_dot f (la_v L 3) * L 3 2 := by
  unfold la_D
  rw [la_d0, la_d0, la_d1, la_d2, la_d3]; simp only [la_m3]; grind
theorem la_cr3 (L : Nat → Nat → Int) (f : Nat → Int) : la_D L * f 3 = la_dot f (la_v L 0) * L 0 3 + la_dot f (la_v L 1) * L 1 3 + la_dot f (la_v L 2) * L 2 3 + la_dot f (la_v L 3) * L 3 3 := by
  unfold la_D
  rw [la_d0, la_d0, la_d1, la_d2, la_d3]; simp only [la_m3]; grind
theorem la_cr (L : Nat → Nat → Int) (f w : Nat → Int) : la_D L * la_dot f w = la_dot f (la_v L 0) * la_dot (L 0) w + la_dot f (la_v L 1) * la_dot (L 1) w + la_dot f (la_v L 2) * la_dot (L 2) w + la_dot f (la_v L 3) * la_dot (L 3) w := by
  have h0 := la_cr0 L f
  have h1 := la_cr1 L f
  have h2 := la_cr2 L f
  have h3 := la_cr3 L f
  generalize la_D L = D at *
  generalize la_dot f (la_v L 0) = V0 at *
  generalize la_dot f (la_v L 1) = V1 at *
  generalize la_dot f (la_v L 2) = V2 at *
  generalize la_dot f (la_v L 3) = V3 at *
  have e : D * la_dot f w = (D * f 0) * w 0 + (D * f 1) * w 1 + (D * f 2) * w 2 + (D * f 3) * w 3 := by
    simp only [la_dot]; grind
  rw [e, h0, h1, h2, h3]
  simp only [la_dot]
  grind
/-- slot k holds g -/
def la_set (L : Nat → Nat → Int) (k : Nat) (g : Nat → Int) : Nat → Nat → Int := fun j => if j = k then g else L j
theorem la_vset (L : Nat → Nat → Int) {k : Nat} (hk : k < 4) (g : Nat → Int) : la_v (la_set L k g) k = la_v L k := by
  have hk' : k = 0 ∨ k = 1 ∨ k = 2 ∨ k = 3 := by omega
  rcases hk' with rfl | rfl | rfl | rfl <;> simp [la_v, la_set]
theorem la_Dset (L : Nat → Nat → Int) {k : Nat} (hk : k < 4) (g : Nat → Int) : la_D (la_set L k g) = la_dot g (la_v L k) := by
  rw [← la_diag (la_set L k g) hk, la_vset L hk g]
  simp [la_set]
theorem la_cr4 (L : Nat → Nat → Int) (f w : Nat → Int) {j k : Nat} (hj : j < 4) (hk : k < 4) (h : j ≠ k) (hz : ∀ i, i < 4 → i ≠ j → i ≠ k → la_dot (L i) w = 0) : la_D L * la_dot f w = la_dot f (la_v L j) * la_dot (L j) w + la_dot f (la_v L k) * la_dot (L k) w := by
  rw [la_cr]
  have hk' : k = 0 ∨ k = 1 ∨ k = 2 ∨ k = 3 := by omega
  have hj' : j = 0 ∨ j = 1 ∨ j = 2 ∨ j = 3 := by omega
  rcases hk' with rfl | rfl | rfl | rfl <;> rcases hj' with rfl | rfl | rfl | rfl <;> first
    | exact absurd rfl h
    | (rw [hz 2 (by decide) (by decide) (by decide), hz 3 (by decide) (by decide) (by decide)]; omega)
    | (rw [hz 1 (by decide) (by decide) (by decide), hz 3 (by decide) (by decide) (by decide)]; omega)
    | (rw [hz 1 (by decide) (by decide) (by decide), hz 2 (by decide) (by decide) (by decide)]; omega)
    | (rw [hz 0 (by decide) (by decide) (by decide), hz 3 (by decide) (by decide) (by decide)]; omega)
    | (rw [hz 0 (by decide) (by decide) (by decide), hz 2 (by decide) (by decide) (by decide)]; omega)
    | (rw [hz 0 (by decide) (by decide) (by decide), hz 1 (by decide) (by decide) (by decide)]; omega)
/-- the exchange of slot k: how the other columns change, with no remainder -/
theorem la_piv (L : Nat → Nat → Int) (f g : Nat → Int) {j k : Nat} (hj : j < 4) (hk : k < 4) (h : j ≠ k) (hD : la_dot g (la_v L k) ≠ 0) : la_D L * la_dot f (la_v (la_set L k g) j) = la_dot f (la_v L j) * la_dot g (la_v L k) - la_dot f (la_v L k) * la_dot g (la_v L j) := by
  have hz : ∀ i, i < 4 → i ≠ j → i ≠ k → la_dot (L i) (la_v (la_set L k g) j) = 0 := by
    intro i hi h1 h2
    have := la_off (la_set L k g) hi hj h1
    rwa [show la_set L k g i = L i by simp [la_set, h2]] at this
  have hjj : la_dot (L j) (la_v (la_set L k g) j) = la_dot g (la_v L k) := by
    have := la_diag (la_set L k g) hj
    rw [la_Dset L hk g] at this
    rwa [show la_set L k g j = L j by simp [la_set, h]] at this
  have hg : la_dot g (la_v (la_set L k g) j) = 0 := by
    have := la_off (la_set L k g) hk hj (fun e => h e.symm)
    rwa [show la_set L k g k = g by simp [la_set]] at this
  have A := la_cr4 L f (la_v (la_set L k g) j) hj hk h hz
  have B := la_cr4 L g (la_v (la_set L k g) j) hj hk h hz
  rw [hg, hjj] at B
  rw [hjj] at A
  have x : la_dot (L k) (la_v (la_set L k g) j) = - la_dot g (la_v L j) := by
    have : la_dot g (la_v L k) * (la_dot (L k) (la_v (la_set L k g) j) + la_dot g (la_v L j)) = 0 := by grind
    rcases Int.mul_eq_zero.mp this with z | z
    · exact absurd z hD
    · omega
  rw [A, x]
  grind
theorem la_m3b {b c d : Nat → Int} (hb : ∀ i, i < 4 → (b i).natAbs ≤ 7) (hc : ∀ i, i < 4 → (c i).natAbs ≤ 7) (hd : ∀ i, i < 4 → (d i).natAbs ≤ 7) {i j k : Nat} (hi : i < 4) (hj : j < 4) (hk : k < 4) : (la_m3 b c d i j k).natAbs ≤ 2058 := by
  unfold la_m3
  have a1 := am_abs (hc j hj) (hd k hk)
  have a2 := am_abs (hc k hk) (hd j hj)
  have a3 := am_abs (hc i hi) (hd k hk)
  have a4 := am_abs (hc k hk) (hd i hi)
  have a5 := am_abs (hc i hi) (hd j hj)
  have a6 := am_abs (hc j hj) (hd i hi)
  have b1 := am_abs (hb i hi) (show (c j * d k - c k * d j).natAbs ≤ 98 by omega)
  have b2 := am_abs (hb j hj) (show (c i * d k - c k * d i).natAbs ≤ 98 by omega)
  have b3 := am_abs (hb k hk) (show (c i * d j - c j * d i).natAbs ≤ 98 by omega)
  omega
theorem la_cofb {b c d : Nat → Int} (hb : ∀ i, i < 4 → (b i).natAbs ≤ 7) (hc : ∀ i, i < 4 → (c i).natAbs ≤ 7) (hd : ∀ i, i < 4 → (d i).natAbs ≤ 7) (i : Nat) : (la_cof b c d i).natAbs ≤ 2058 := by
  unfold la_cof
  have a0 := la_m3b hb hc hd (i := 1) (j := 2) (k := 3) (by decide) (by decide) (by decide)
  have a1 := la_m3b hb hc hd (i := 0) (j := 2) (k := 3) (by decide) (by decide) (by decide)
  have a2 := la_m3b hb hc hd (i := 0) (j := 1) (k := 3) (by decide) (by decide) (by decide)
  have a3 := la_m3b hb hc hd (i := 0) (j := 1) (k := 2) (by decide) (by decide) (by decide)
  split
  · exact a0
  · split
    · omega
    · split
      · exact a2
      · omega
theorem la_vb {L : Nat → Nat → Int} (hL : ∀ j, j < 4 → ∀ i, i < 4 → (L j i).natAbs ≤ 7) (k i : Nat) : (la_v L k i).natAbs ≤ 2058 := by
  have h0 := hL 0 (by decide)
  have h1 := hL 1 (by decide)
  have h2 := hL 2 (by decide)
  have h3 := hL 3 (by decide)
  unfold la_v
  split
  · exact la_cofb h1 h2 h3 i
  · split
    · have := la_cofb h0 h2 h3 i
      show (-(la_cof (L 0) (L 2) (L 3) i)).natAbs ≤ 2058
      omega
    · split
      · exact la_cofb h0 h1 h3 i
      · have := la_cofb h0 h1 h2 i
        show (-(la_cof (L 0) (L 1) (L 2) i)).natAbs ≤ 2058
        omega
theorem la_dotb {L : Nat → Nat → Int} {f : Nat → Int} (hL : ∀ j, j < 4 → ∀ i, i < 4 → (L j i).natAbs ≤ 7) (hf : ∀ i, i < 4 → (f i).natAbs ≤ 7) (k : Nat) : (la_dot f (la_v L k)).natAbs ≤ 57624 := by
  unfold la_dot
  have a0 := am_abs (hf 0 (by decide)) (la_vb hL k 0)
  have a1 := am_abs (hf 1 (by decide)) (la_vb hL k 1)
  have a2 := am_abs (hf 2 (by decide)) (la_vb hL k 2)
  have a3 := am_abs (hf 3 (by decide)) (la_vb hL k 3)
  omega
end
section
def tb_s (D : Int) : Int := if D < 0 then -1 else 1
def tb_u (L : Nat → Nat → Int) : Int := tb_s (la_D L) * la_D L
def tb_T (L : Nat → Nat → Int) (f : Nat → Int) (j : Nat) : Int := -(tb_s (la_D L) * la_dot f (la_v L j))
def tb_R (L : Nat → Nat → Int) (f : Nat → Int) : Int := tb_u L * f 4 + (tb_T L f 0 * L 0 4 + tb_T L f 1 * L 1 4 + tb_T L f 2 * L 2 4 + tb_T L f 3 * L 3 4)
/-- a form at a point: the place 4 is the common denominator -/
def tb_val (f y : Nat → Int) : Int := la_dot f y + f 4 * y 4
theorem tb_s2 (D : Int) : tb_s D * tb_s D = 1 := by
  unfold tb_s
  split <;> decide
theorem tb_sc (D : Int) : tb_s D = 1 ∨ tb_s D = -1 := by
  unfold tb_s
  split
  · exact Or.inr rfl
  · exact Or.inl rfl
theorem tb_upos {L : Nat → Nat → Int} (h : la_D L ≠ 0) : 0 < tb_u L := by
  unfold tb_u tb_s
  split <;> omega
theorem tb_une {L : Nat → Nat → Int} (h : la_D L ≠ 0) : tb_u L ≠ 0 := by
  have := tb_upos h
  omega
theorem tb_sem (L : Nat → Nat → Int) (f y : Nat → Int) : tb_u L * tb_val f y = tb_R L f * y 4 - (tb_T L f 0 * tb_val (L 0) y + tb_T L f 1 * tb_val (L 1) y + tb_T L f 2 * tb_val (L 2) y + tb_T L f 3 * tb_val (L 3) y) := by
  have c := la_cr L f y
  unfold tb_R tb_u tb_T tb_val
  generalize la_D L = D at *
  generalize tb_s D = s at *
  generalize la_dot f (la_v L 0) = V0 at *
  generalize la_dot f (la_v L 1) = V1 at *
  generalize la_dot f (la_v L 2) = V2 at *
  generalize la_dot f (la_v L 3) = V3 at *
  generalize la_dot f y = F at *
  generalize la_dot (L 0) y = Y0 at *
  generalize la_dot (L 1) y = Y1 at *
  generalize la_dot (L 2) y = Y2 at *
  generalize la_dot (L 3) y = Y3 at *
  have e : s * D * (F + f 4 * y 4) = s * (D * F) + s * D * (f 4 * y 4) := by grind
  rw [e, c]
  grind
theorem tb_own0 (L : Nat → Nat → Int) {k j : Nat} (hk : k < 4) (hj : j < 4) (h : k ≠ j) : tb_T L (L k) j = 0 := by
  unfold tb_T
  rw [la_off L hk hj h]
  omega
theorem tb_own1 (L : Nat → Nat → Int) {k : Nat} (hk : k < 4) : tb_T L (L k) k = -tb_u L := by
  unfold tb_T tb_u
  rw [la_diag L hk]
theorem tb_ownR (L : Nat → Nat → Int) {k : Nat} (hk : k < 4) : tb_R L (L k) = 0 := by
  have hk' : k = 0 ∨ k = 1 ∨ k = 2 ∨ k = 3 := by omega
  unfold tb_R
  rcases hk' with rfl | rfl | rfl | rfl
  · rw [tb_own1 L hk, tb_own0 L hk (show 1 < 4 by decide) (by decide), tb_own0 L hk (show 2 < 4 by decide) (by decide), tb_own0 L hk (show 3 < 4 by decide) (by decide)]
    grind
  · rw [tb_own1 L hk, tb_own0 L hk (show 0 < 4 by decide) (by decide), tb_own0 L hk (show 2 < 4 by decide) (by decide), tb_own0 L hk (show 3 < 4 by decide) (by decide)]
    grind
  · rw [tb_own1 L hk, tb_own0 L hk (show 1 < 4 by decide) (by decide), tb_own0 L hk (show 0 < 4 by decide) (by decide), tb_own0 L hk (show 3 < 4 by decide) (by decide)]
    grind
  · rw [tb_own1 L hk, tb_own0 L hk (show 1 < 4 by decide) (by decide), tb_own0 L hk (show 2 < 4 by decide) (by decide), tb_own0 L hk (show 0 < 4 by decide) (by decide)]
    grind
theorem tb_sneg {s p : Int} (hs : s = 1 ∨ s = -1) (hp : p ≠ 0) : tb_s (-(s * p)) = -(s * tb_s p) := by
  unfold tb_s
  rcases hs with rfl | rfl
  · split <;> split <;> omega
  · split <;> split <;> omega
theorem tb_pD {L : Nat → Nat → Int} {g : Nat → Int} {k : Nat} (hk : k < 4) : la_D (la_set L k g) = -(tb_s (la_D L) * tb_T L g k) := by
  rw [la_Dset L hk g]
  unfold tb_T
  have := tb_s2 (la_D L)
  generalize tb_s (la_D L) = s at *
  generalize la_dot g (la_v L k) = V at *
  have e : -(s * -(s * V)) = s * s * V := by grind
  rw [e, this]
  omega
theorem tb_pDne {L : Nat → Nat → Int} {g : Nat → Int} {k : Nat} (hk : k < 4) (hp : tb_T L g k ≠ 0) : la_D (la_set L k g) ≠ 0 := by
  rw [tb_pD hk]
  rcases tb_sc (la_D L) with e | e <;> rw [e] <;> omega
theorem tb_ps {L : Nat → Nat → Int} {g : Nat → Int} {k : Nat} (hk : k < 4) (hp : tb_T L g k ≠ 0) : tb_s (la_D (la_set L k g)) = -(tb_s (la_D L) * tb_s (tb_T L g k)) := by
  rw [tb_pD hk]
  exact tb_sneg (tb_sc _) hp
theorem tb_pu {L : Nat → Nat → Int} {g : Nat → Int} {k : Nat} (hk : k < 4) (hp : tb_T L g k ≠ 0) : tb_u (la_set L k g) = tb_s (tb_T L g k) * tb_T L g k := by
  unfold tb_u
  rw [tb_ps hk hp, tb_pD hk]
  have := tb_s2 (la_D L)
  generalize tb_s (la_D L) = s at *
  generalize tb_T L g k = p at *
  have e : -(s * tb_s p) * -(s * p) = (s * s) * (tb_s p * p) := by grind
  rw [e, this]
  omega
theorem tb_pTk {L : Nat → Nat → Int} (f : Nat → Int) {g : Nat → Int} {k : Nat} (hk : k < 4) (hp : tb_T L g k ≠ 0) : tb_T (la_set L k g) f k = -(tb_s (tb_T L g k) * tb_T L f k) := by
  have e1 : tb_T (la_set L k g) f k = -(-(tb_s (la_D L) * tb_s (tb_T L g k)) * la_dot f (la_v L k)) := by
    show -(tb_s (la_D (la_set L k g)) * la_dot f (la_v (la_set L k g) k)) = _
    rw [tb_ps hk hp, la_vset L hk g]
  rw [e1]
  show _ = -(tb_s (tb_T L g k) * -(tb_s (la_D L) * la_dot f (la_v L k)))
  grind
theorem tb_pTj {L : Nat → Nat → Int} (f : Nat → Int) {g : Nat → Int} {k j : Nat} (hk : k < 4) (hj : j < 4) (h : j ≠ k) (hp : tb_T L g k ≠ 0) : tb_u L * tb_T (la_set L k g) f j = tb_s (tb_T L g k) * (tb_T L f j * tb_T L g k - tb_T L f k * tb_T L g j) := by
  have hD : la_dot g (la_v L k) ≠ 0 := by
    intro z
    apply hp
    unfold tb_T
    rw [z]
    omega
  have c := la_piv L f g hj hk h hD
  have e1 : tb_T (la_set L k g) f j = -(-(tb_s (la_D L) * tb_s (tb_T L g k)) * la_dot f (la_v (la_set L k g) j)) := by
    show -(tb_s (la_D (la_set L k g)) * la_dot f (la_v (la_set L k g) j)) = _
    rw [tb_ps hk hp]
  rw [e1]
  generalize hq : tb_s (tb_T L g k) = q
  unfold tb_u tb_T
  have s2 := tb_s2 (la_D L)
  generalize tb_s (la_D L) = s at *
  generalize la_D L = D at *
  generalize la_dot f (la_v (la_set L k g) j) = F at *
  generalize la_dot f (la_v L j) = A at *
  generalize la_dot f (la_v L k) = B at *
  generalize la_dot g (la_v L j) = C at *
  generalize la_dot g (la_v L k) = E at *
  have e2 : s * D * -(-(s * q) * F) = (s * s) * q * (D * F) := by grind
  have e3 : q * (-(s * A) * -(s * E) - -(s * B) * -(s * C)) = (s * s) * q * (A * E - B * C) := by grind
  rw [e2, e3, c]
theorem tb_alg {u p q F G t0 t1 t2 t3 g0 g1 g2 g3 T0 T1 T2 l0 l1 l2 l3 : Int} (h0 : u * T0 = q * (t0 * p - t3 * g0)) (h1 : u * T1 = q * (t1 * p - t3 * g1)) (h2 : u * T2 = q * (t2 * p - t3 * g2)) (hp : g3 = p) :
    u * (q * p * F + (T0 * l0 + T1 * l1 + T2 * l2 + -(q * t3) * G)) = q * ((u * F + (t0 * l0 + t1 * l1 + t2 * l2 + t3 * l3)) * p - t3 * (u * G + (g0 * l0 + g1 * l1 + g2 * l2 + g3 * l3))) := by
  have e : u * (q * p * F + (T0 * l0 + T1 * l1 + T2 * l2 + -(q * t3) * G)) = u * q * p * F + ((u * T0) * l0 + (u * T1) * l1 + (u * T2) * l2) - u * q * t3 * G := by grind
  rw [e, h0, h1, h2, hp]
  grind
theorem tb_pR {L : Nat → Nat → Int} (f : Nat → Int) {g : Nat → Int} {k : Nat} (hk : k < 4) (hp : tb_T L g k ≠ 0) : tb_u L * tb_R (la_set L k g) f = tb_s (tb_T L g k) * (tb_R L f * tb_T L g k - tb_T L f k * tb_R L g) := by
  have hu := tb_pu hk hp
  have hk' : k = 0 ∨ k = 1 ∨ k = 2 ∨ k = 3 := by omega
  unfold tb_R
  rw [hu]
  rcases hk' with rfl | rfl | rfl | rfl
  · have hT := tb_pTk f hk hp
    have h1 := tb_pTj f hk (show 1 < 4 by decide) (by decide) hp
    have h2 := tb_pTj f hk (show 2 < 4 by decide) (by decide) hp
    have h3 := tb_pTj f hk (show 3 < 4 by decide) (by decide) hp
    have e0 : la_set L 0 g 0 = g := by simp [la_set]
    have e1 : la_set L 0 g 1 = L 1 := by simp [la_set]
    have e2 : la_set L 0 g 2 = L 2 := by simp [la_set]
    have e3 : la_set L 0 g 3 = L 3 := by simp [la_set]
    rw [hT, e0, e1, e2, e3]
    have A := tb_alg (F := f 4) (G := g 4) (l0 := L 1 4) (l1 := L 2 4) (l2 := L 3 4) (l3 := L 0 4) h1 h2 h3 rfl
    grind
  · have hT := tb_pTk f hk hp
    have h1 := tb_pTj f hk (show 0 < 4 by decide) (by decide) hp
    have h2 := tb_pTj f hk (show 2 < 4 by decide) (by decide) hp
    have h3 := tb_pTj f hk (show 3 < 4 by decide) (by decide) hp
    have e0 : la_set L 1 g 0 = L 0 := by simp [la_set]
    have e1 : la_set L 1 g 1 = g := by simp [la_set]
    have e2 : la_set L 1 g 2 = L 2 := by simp [la_set]
    have e3 : la_set L 1 g 3 = L 3 := by simp [la_set]
    rw [hT, e0, e1, e2, e3]
    have A := tb_alg (F := f 4) (G := g 4) (l0 := L 0 4) (l1 := L 2 4) (l2 := L 3 4) (l3 := L 1 4) h1 h2 h3 rfl
    grind
  · have hT := tb_pTk f hk hp
    have h1 := tb_pTj f hk (show 0 < 4 by decide) (by decide) hp
    have h2 := tb_pTj f hk (show 1 < 4 by decide) (by decide) hp
    have h3 := tb_pTj f hk (show 3 < 4 by decide) (by decide) hp
    have e0 : la_set L 2 g 0 = L 0 := by simp [la_set]
    have e1 : la_set L 2 g 1 = L 1 := by simp [la_set]
    have e2 : la_set L 2 g 2 = g := by simp [la_set]
    have e3 : la_set L 2 g 3 = L 3 := by simp [la_set]
    rw [hT, e0, e1, e2, e3]
    have A := tb_alg (F := f 4) (G := g 4) (l0 := L 0 4) (l1 := L 1 4) (l2 := L 3 4) (l3 := L 2 4) h1 h2 h3 rfl
    grind
  · have hT := tb_pTk f hk hp
    have h1 := tb_pTj f hk (show 0 < 4 by decide) (by decide) hp
    have h2 := tb_pTj f hk (show 1 < 4 by decide) (by decide) hp
    have h3 := tb_pTj f hk (show 2 < 4 by decide) (by decide) hp
    have e0 : la_set L 3 g 0 = L 0 := by simp [la_set]
    have e1 : la_set L 3 g 1 = L 1 := by simp [la_set]
    have e2 : la_set L 3 g 2 = L 2 := by simp [la_set]
    have e3 : la_set L 3 g 3 = g := by simp [la_set]
    rw [hT, e0, e1, e2, e3]
    have A := tb_alg (F := f 4) (G := g 4) (l0 := L 0 4) (l1 := L 1 4) (l2 := L 2 4) (l3 := L 3 4) h1 h2 h3 rfl
    grind
/-- the unit forms, the corner of a table -/
def la_e (i : Nat) : Nat → Int := fun j => if j = i then 1 else 0
def tb_vx (L : Nat → Nat → Int) : Nat → Int := fun i => if i = 4 then tb_u L else tb_R L (la_e i)
theorem tb_vx4 (L : Nat → Nat → Int) : tb_vx L 4 = tb_u L := by simp [tb_vx]
theorem tb_ei (i : Nat) (w : Nat → Int) (hi : i < 4) : la_dot (la_e i) w = w i := by
  have hi' : i = 0 ∨ i = 1 ∨ i = 2 ∨ i = 3 := by omega
  rcases hi' with rfl | rfl | rfl | rfl <;> simp [la_dot, la_e]
theorem tb_Te (L : Nat → Nat → Int) (i j : Nat) (hi : i < 4) : tb_T L (la_e i) j = -(tb_s (la_D L) * la_v L j i) := by
  unfold tb_T
  rw [tb_ei i _ hi]
theorem tb_vxval (L : Nat → Nat → Int) (f : Nat → Int) : tb_val f (tb_vx L) = tb_R L f := by
  have e : ∀ i, i < 4 → tb_vx L i = tb_T L (la_e i) 0 * L 0 4 + tb_T L (la_e i) 1 * L 1 4 + tb_T L (la_e i) 2 * L 2 4 + tb_T L (la_e i) 3 * L 3 4 := by
    intro i hi
    have h4 : ¬ i = 4 := by omega
    have z : la_e i 4 = 0 := by simp [la_e]; omega
    simp only [tb_vx, h4, if_false, tb_R, z]
    omega
  unfold tb_val
  rw [tb_vx4]
  show f 0 * tb_vx L 0 + f 1 * tb_vx L 1 + f 2 * tb_vx L 2 + f 3 * tb_vx L 3 + f 4 * tb_u L = _
  rw [e 0 (by decide), e 1 (by decide), e 2 (by decide), e 3 (by decide)]
  simp only [tb_Te L 0 _ (by decide), tb_Te L 1 _ (by decide), tb_Te L 2 _ (by decide), tb_Te L 3 _ (by decide)]
  unfold tb_R
  generalize tb_u L = U
  unfold tb_T la_dot
  generalize tb_s (la_D L) = s
  generalize la_v L 0 = v0
  generalize la_v L 1 = v1
  generalize la_v L 2 = v2
  generalize la_v L 3 = v3
  grind
theorem tb_uni {L : Nat → Nat → Int} {f t : Nat → Int} (hD : la_D L ≠ 0) (h : ∀ i, i < 4 → tb_u L * f i = -(t 0 * L 0 i + t 1 * L 1 i + t 2 * L 2 i + t 3 * L 3 i)) {j : Nat} (hj : j < 4) : t j = tb_T L f j := by
  have key : ∀ w : Nat → Int, tb_u L * la_dot f w = -(t 0 * la_dot (L 0) w + t 1 * la_dot (L 1) w + t 2 * la_dot (L 2) w + t 3 * la_dot (L 3) w) := by
    intro w
    have h0 := h 0 (by decide)
    have h1 := h 1 (by decide)
    have h2 := h 2 (by decide)
    have h3 := h 3 (by decide)
    have e : tb_u L * la_dot f w = (tb_u L * f 0) * w 0 + (tb_u L * f 1) * w 1 + (tb_u L * f 2) * w 2 + (tb_u L * f 3) * w 3 := by
      simp only [la_dot]; grind
    rw [e, h0, h1, h2, h3]
    simp only [la_dot]
    grind
  have k := key (la_v L j)
  have main : tb_u L * la_dot f (la_v L j) = -(t j * la_D L) := by
    rw [k]
    have hj' : j = 0 ∨ j = 1 ∨ j = 2 ∨ j = 3 := by omega
    rcases hj' with rfl | rfl | rfl | rfl
    · rw [la_diag L hj, la_off L (show 1 < 4 by decide) hj (by decide), la_off L (show 2 < 4 by decide) hj (by decide), la_off L (show 3 < 4 by decide) hj (by decide)]
      omega
    · rw [la_diag L hj, la_off L (show 0 < 4 by decide) hj (by decide), la_off L (show 2 < 4 by decide) hj (by decide), la_off L (show 3 < 4 by decide) hj (by decide)]
      omega
    · rw [la_diag L hj, la_off L (show 1 < 4 by decide) hj (by decide), la_off L (show 0 < 4 by decide) hj (by decide), la_off L (show 3 < 4 by decide) hj (by decide)]
      omega
    · rw [la_diag L hj, la_off L (show 1 < 4 by decide) hj (by decide), la_off L (show 2 < 4 by decide) hj (by decide), la_off L (show 0 < 4 by decide) hj (by decide)]
      omega
  unfold tb_u at main
  unfold tb_T
  generalize tb_s (la_D L) = s at *
  generalize la_dot f (la_v L j) = V at *
  have z : la_D L * (s * V + t j) = 0 := by grind
  rcases Int.mul_eq_zero.mp z with c | c
  · exact absurd c hD
  · omega
theorem tb_Tb {L : Nat → Nat → Int} {f : Nat → Int} (hL : ∀ j, j < 4 → ∀ i, i < 4 → (L j i).natAbs ≤ 7) (hf : ∀ i, i < 4 → (f i).natAbs ≤ 7) (k : Nat) : (tb_T L f k).natAbs ≤ 57624 := by
  have := la_dotb hL hf k
  unfold tb_T
  rcases tb_sc (la_D L) with e | e <;> rw [e] <;> omega
theorem tb_ub {L : Nat → Nat → Int} (hL : ∀ j, j < 4 → ∀ i, i < 4 → (L j i).natAbs ≤ 7) : (tb_u L).natAbs ≤ 57624 := by
  have := la_dotb hL (hL 0 (by decide)) 0
  unfold tb_u la_D
  rcases tb_sc (la_dot (L 0) (la_v L 0)) with e | e <;> rw [e] <;> omega
theorem tb_Rb {L : Nat → Nat → Int} {f : Nat → Int} (hL : ∀ j, j < 4 → ∀ i, i < 4 → (L j i).natAbs ≤ 7) (hL4 : ∀ j, j < 4 → (L j 4).natAbs ≤ 600) (hf : ∀ i, i < 4 → (f i).natAbs ≤ 7) (hf4 : (f 4).natAbs ≤ 600) : (tb_R L f).natAbs ≤ 172872000 := by
  unfold tb_R
  have a0 := am_abs (tb_Tb hL hf 0) (hL4 0 (by decide))
  have a1 := am_abs (tb_Tb hL hf 1) (hL4 1 (by decide))
  have a2 := am_abs (tb_Tb hL hf 2) (hL4 2 (by decide))
  have a3 := am_abs (tb_Tb hL hf 3) (hL4 3 (by decide))
  have a4 := am_abs (tb_ub hL) hf4
  omega
end
section
/-- four numbers, the first one that isn't 0 is negative -/
def lx_N (a : Nat → Int) : Prop := a 0 < 0 ∨ (a 0 = 0 ∧ (a 1 < 0 ∨ (a 1 = 0 ∧ (a 2 < 0 ∨ (a 2 = 0 ∧ a 3 < 0)))))
theorem lx_add {a b c : Nat → Int} (ha : ¬ lx_N a) (hb : ¬ lx_N b) (h : ∀ w, w < 4 → c w = a w + b w) : ¬ lx_N c := by
  have h0 := h 0 (by decide)
  have h1 := h 1 (by decide)
  have h2 := h 2 (by decide)
  have h3 := h 3 (by decide)
  unfold lx_N at *
  omega
theorem lx_eq {a c : Nat → Int} (h : ∀ w, w < 4 → c w = a w) : lx_N c ↔ lx_N a := by
  unfold lx_N
  rw [h 0 (by decide), h 1 (by decide), h 2 (by decide), h 3 (by decide)]
theorem lx_sg {k : Int} (hk : 0 < k) (x : Int) : (k * x < 0 ↔ x < 0) ∧ (k * x = 0 ↔ x = 0) := by
  rcases Int.lt_trichotomy x 0 with h | h | h
  · have := Int.mul_neg_of_pos_of_neg hk h
    omega
  · rw [h]
    omega
  · have := Int.mul_pos hk h
    omega
theorem lx_pos {a c : Nat → Int} {k : Int} (hk : 0 < k) (h : ∀ w, w < 4 → c w = k * a w) : lx_N c ↔ lx_N a := by
  unfold lx_N
  rw [h 0 (by decide), h 1 (by decide), h 2 (by decide), h 3 (by decide)]
  rw [(lx_sg hk (a 0)).1, (lx_sg hk (a 0)).2, (lx_sg hk (a 1)).1, (lx_sg hk (a 1)).2, (lx_sg hk (a 2)).1, (lx_sg hk (a 2)).2, (lx_sg hk (a 3)).1]
theorem lx_nn {a c : Nat → Int} {k : Int} (hk : 0 ≤ k) (ha : ¬ lx_N a) (h : ∀ w, w < 4 → c w = k * a w) : ¬ lx_N c := by
  rcases Int.lt_or_eq_of_le hk with z | z
  · rw [lx_pos z h]
    exact ha
  · have h0 := h 0 (by decide)
    have h1 := h 1 (by decide)
    have h2 := h 2 (by decide)
    have h3 := h 3 (by decide)
    rw [← z, Int.zero_mul] at h0 h1 h2 h3
    unfold lx_N
    omega
theorem lx_anti {a c : Nat → Int} (ha : lx_N a) (h : ∀ w, w < 4 → c w = - a w) : ¬ lx_N c := by
  have h0 := h 0 (by decide)
  have h1 := h 1 (by decide)
  have h2 := h 2 (by decide)
  have h3 := h 3 (by decide)
  unfold lx_N at *
  omega
theorem lx_zero {a : Nat → Int} (h : ∀ w, w < 4 → a w = 0) : ¬ lx_N a := by
  have h0 := h 0 (by decide)
  have h1 := h 1 (by decide)
  have h2 := h 2 (by decide)
  have h3 := h 3 (by decide)
  unfold lx_N
  omega
/-- the forms at the columns -/
def ch_L (nf : Nat → Nat → Int) (cn : Nat → Nat) : Nat → Nat → Int := fun j => nf (cn j)
def ch_sw (c : Nat → Nat) (k n : Nat) : Nat → Nat := fun j => if j = k then n else c j
theorem ch_sws (c : Nat → Nat) (k n : Nat) : ch_sw c k n k = n := by simp [ch_sw]
theorem ch_swn (c : Nat → Nat) {k j : Nat} (n : Nat) (h : j ≠ k) : ch_sw c k n j = c j := by simp [ch_sw, h]
theorem ch_Lsw (nf : Nat → Nat → Int) (cn : Nat → Nat) (k n : Nat) : ch_L nf (ch_sw cn k n) = la_set (ch_L nf cn) k (nf n) := by
  funext j
  unfold ch_L ch_sw la_set
  split <;> rfl
theorem la_vcong {L L' : Nat → Nat → Int} (h : ∀ j, j < 4 → L j = L' j) (k : Nat) : la_v L k = la_v L' k := by
  unfold la_v
  rw [h 0 (by decide), h 1 (by decide), h 2 (by decide), h 3 (by decide)]
theorem la_Dcong {L L' : Nat → Nat → Int} (h : ∀ j, j < 4 → L j = L' j) : la_D L = la_D L' := by
  unfold la_D
  rw [la_vcong h 0, h 0 (by decide)]
theorem tb_ucong {L L' : Nat → Nat → Int} (h : ∀ j, j < 4 → L j = L' j) : tb_u L = tb_u L' := by
  unfold tb_u
  rw [la_Dcong h]
theorem tb_Tcong {L L' : Nat → Nat → Int} (h : ∀ j, j < 4 → L j = L' j) (f : Nat → Int) (k : Nat) : tb_T L f k = tb_T L' f k := by
  unfold tb_T
  rw [la_Dcong h, la_vcong h k]
theorem tb_Rcong {L L' : Nat → Nat → Int} (h : ∀ j, j < 4 → L j = L' j) (f : Nat → Int) : tb_R L f = tb_R L' f := by
  unfold tb_R
  rw [tb_ucong h, tb_Tcong h f 0, tb_Tcong h f 1, tb_Tcong h f 2, tb_Tcong h f 3, h 0 (by decide), h 1 (by decide), h 2 (by decide), h 3 (by decide)]
theorem la_inj {L : Nat → Nat → Int} (hD : la_D L ≠ 0) {i j : Nat} (hi : i < 4) (hj : j < 4) (h : L i = L j) : i = j := by
  rcases Nat.decEq i j with z | z
  · have a := la_diag L hi
    rw [h, la_off L hj hi (fun e => z e.symm)] at a
    exact absurd a.symm hD
  · exact z
theorem tb_dir (L M : Nat → Nat → Int) (f : Nat → Int) (e : Nat) : tb_u M * tb_T L f e = -(tb_T M f 0 * tb_T L (M 0) e) + -(tb_T M f 1 * tb_T L (M 1) e) + -(tb_T M f 2 * tb_T L (M 2) e) + -(tb_T M f 3 * tb_T L (M 3) e) := by
  have c := la_cr M f (la_v L e)
  unfold tb_u tb_T
  generalize tb_s (la_D M) = q
  generalize tb_s (la_D L) = s
  have e1 : q * la_D M * -(s * la_dot f (la_v L e)) = -(q * s * (la_D M * la_dot f (la_v L e))) := by grind
  rw [e1, c]
  grind
/-- all names are at a row or at a column, none at two places -/
def ch_K (m : Nat) (Nm : Nat → Prop) (rn cn : Nat → Nat) : Prop :=
  (∀ n, Nm n → (∃ r, r < m ∧ rn r = n) ∨ (∃ j, j < 4 ∧ cn j = n)) ∧ (∀ r r', r < m → r' < m → rn r = rn r' → r = r') ∧ (∀ r j, r < m → j < 4 → rn r ≠ cn j)
def ch_C (nf : Nat → Nat → Int) (m : Nat) (Nm : Nat → Prop) (rn cn : Nat → Nat) : Prop :=
  la_D (ch_L nf cn) ≠ 0 ∧ ch_K m Nm rn cn ∧ (∀ r, r < m → Nm (rn r)) ∧ (∀ j, j < 4 → Nm (cn j))
theorem ch_Cnext {nf : Nat → Nat → Int} {m : Nat} {Nm : Nat → Prop} {rn cn : Nat → Nat} {l e : Nat} (h : ch_C nf m Nm rn cn) (hl : l < m) (he : e < 4) (hp : tb_T (ch_L nf cn) (nf (rn l)) e ≠ 0) : ch_C nf m Nm (ch_sw rn l (cn e)) (ch_sw cn e (rn l)) := by
  obtain ⟨h1, ⟨h2, hi, hd⟩, h3, h4⟩ := h
  have ci : ∀ i j, i < 4 → j < 4 → cn i = cn j → i = j := fun i j hi' hj' q => la_inj h1 hi' hj' (show nf (cn i) = nf (cn j) by rw [q])
  refine ⟨?_, ⟨?_, ?_, ?_⟩, ?_, ?_⟩
  · rw [ch_Lsw]
    exact tb_pDne he hp
  · intro n hn
    rcases h2 n hn with ⟨r, hr, er⟩ | ⟨j, hj, ej⟩
    · rcases Nat.decEq r l with z | z
      · exact Or.inl ⟨r, hr, by rw [ch_swn _ _ z]; exact er⟩
      · exact Or.inr ⟨e, he, by rw [ch_sws, ← z]; exact er⟩
    · rcases Nat.decEq j e with z | z
      · exact Or.inr ⟨j, hj, by rw [ch_swn _ _ z]; exact ej⟩
      · exact Or.inl ⟨l, hl, by rw [ch_sws, ← z]; exact ej⟩
  · intro r r' hr hr' q
    rcases Nat.decEq r l with z | z
    · rcases Nat.decEq r' l with y | y
      · rw [ch_swn _ _ z, ch_swn _ _ y] at q
        exact hi r r' hr hr' q
      · rw [y, ch_sws, ch_swn _ _ z] at q
        exact absurd q (hd r e hr he)
    · rcases Nat.decEq r' l with y | y
      · rw [z, ch_sws, ch_swn _ _ y] at q
        exact absurd q.symm (hd r' e hr' he)
      · rw [z, y]
  · intro r j hr hj q
    rcases Nat.decEq r l with z | z
    · rw [ch_swn _ _ z] at q
      rcases Nat.decEq j e with y | y
      · rw [ch_swn _ _ y] at q
        exact hd r j hr hj q
      · rw [y, ch_sws] at q
        exact z (hi r l hr hl q)
    · rw [z, ch_sws] at q
      rcases Nat.decEq j e with y | y
      · rw [ch_swn _ _ y] at q
        exact y (ci e j he hj q).symm
      · rw [y, ch_sws] at q
        exact hd l e hl he q.symm
  · intro r hr
    unfold ch_sw
    split
    · exact h4 e he
    · exact h3 r hr
  · intro j hj
    unfold ch_sw
    split
    · exact h3 l hl
    · exact h4 j hj
/-- a chain of exchanges -/
def ch_ok (V : (Nat → Nat) → (Nat → Nat) → Prop) (P : (Nat → Nat) → (Nat → Nat) → Nat → Nat → Prop) (i : Nat) (rs cs : Nat → Nat → Nat) (ls es : Nat → Nat) : Prop :=
  (∀ k, k ≤ i → V (rs k) (cs k)) ∧ (∀ k, k < i → P (rs k) (cs k) (ls k) (es k) ∧ rs (k + 1) = ch_sw (rs k) (ls k) (cs k (es k)) ∧ cs (k + 1) = ch_sw (cs k) (es k) (rs k (ls k)))
def ch_at (V : (Nat → Nat) → (Nat → Nat) → Prop) (P : (Nat → Nat) → (Nat → Nat) → Nat → Nat → Prop) (i : Nat) (rn cn : Nat → Nat) : Prop :=
  ∃ (rs cs : Nat → Nat → Nat) (ls es : Nat → Nat), ch_ok V P i rs cs ls es ∧ rs i = rn ∧ cs i = cn
theorem ch_zero {V : (Nat → Nat) → (Nat → Nat) → Prop} {P : (Nat → Nat) → (Nat → Nat) → Nat → Nat → Prop} {rn cn : Nat → Nat} (h : V rn cn) : ch_at V P 0 rn cn :=
  ⟨fun _ => rn, fun _ => cn, fun _ => 0, fun _ => 0, ⟨fun _ _ => h, fun k hk => absurd hk (by omega)⟩, rfl, rfl⟩
theorem ch_more {V : (Nat → Nat) → (Nat → Nat) → Prop} {P : (Nat → Nat) → (Nat → Nat) → Nat → Nat → Prop} {i l e : Nat} {rn cn : Nat → Nat} (h : ch_at V P i rn cn) (hp : P rn cn l e) (hv : V (ch_sw rn l (cn e)) (ch_sw cn e (rn l))) : ch_at V P (i + 1) (ch_sw rn l (cn e)) (ch_sw cn e (rn l)) := by
  obtain ⟨rs, cs, ls, es, ⟨h1, h2⟩, e1, e2⟩ := h
  refine ⟨fun k => if k ≤ i then rs k else ch_sw rn l (cn e), fun k => if k ≤ i then cs k else ch_sw cn e (rn l), fun k => if k < i then ls k else l, fun k => if k < i then es k else e, ⟨?_, ?_⟩, ?_, ?_⟩
  · intro k hk
    try dsimp only
    rcases Nat.lt_or_ge i k with z | z
    · rw [if_neg (by omega), if_neg (by omega)]
      exact hv
    · rw [if_pos z, if_pos z]
      exact h1 k z
  · intro k hk
    try dsimp only
    rcases Nat.lt_or_ge k i with z | z
    · rw [if_pos (show k ≤ i by omega), if_pos (show k ≤ i by omega), if_pos z, if_pos z, if_pos (show k + 1 ≤ i by omega), if_pos (show k + 1 ≤ i by omega)]
      exact h2 k z
    · have ek : k = i := by omega
      rw [if_pos (show k ≤ i by omega), if_pos (show k ≤ i by omega), if_neg (show ¬ k < i by omega), if_neg (show ¬ k < i by omega), if_neg (show ¬ k + 1 ≤ i by omega), if_neg (show ¬ k + 1 ≤ i by omega), ek, e1, e2]
      exact ⟨hp, rfl, rfl⟩
  · try dsimp only
    rw [if_neg (by omega)]
  · try dsimp only
    rw [if_neg (by omega)]
/-- the names of the columns, as one number -/
def ch_c1 (n : Nat) : Nat := if n = 99 then 16 else n
def ch_cd (cn : Nat → Nat) : Nat := ch_c1 (cn 0) + 17 * ch_c1 (cn 1) + 289 * ch_c1 (cn 2) + 4913 * ch_c1 (cn 3)
theorem ch_c1lt {n : Nat} (h : n < 16 ∨ n = 99) : ch_c1 n < 17 := by
  unfold ch_c1
  split <;> omega
theorem ch_c1inj {n k : Nat} (h : n < 16 ∨ n = 99) (h' : k < 16 ∨ k = 99) (e : ch_c1 n = ch_c1 k) : n = k := by
  unfold ch_c1 at e
  split at e <;> split at e <;> omega
theorem ch_cdlt {cn : Nat → Nat} (h : ∀ j, j < 4 → (cn j < 16 ∨ cn j = 99)) : ch_cd cn < 83521 := by
  have h0 := ch_c1lt (h 0 (by decide))
  have h1 := ch_c1lt (h 1 (by decide))
  have h2 := ch_c1lt (h 2 (by decide))
  have h3 := ch_c1lt (h 3 (by decide))
  unfold ch_cd
  omega
theorem ch_cdinj {cn dn : Nat → Nat} (h : ∀ j, j < 4 → (cn j < 16 ∨ cn j = 99)) (h' : ∀ j, j < 4 → (dn j < 16 ∨ dn j = 99)) (e : ch_cd cn = ch_cd dn) : ∀ j, j < 4 → cn j = dn j := by
  have h0 := ch_c1lt (h 0 (by decide))
  have h1 := ch_c1lt (h 1 (by decide))
  have h2 := ch_c1lt (h 2 (by decide))
  have h3 := ch_c1lt (h 3 (by decide))
  have g0 := ch_c1lt (h' 0 (by decide))
  have g1 := ch_c1lt (h' 1 (by decide))
  have g2 := ch_c1lt (h' 2 (by decide))
  have g3 := ch_c1lt (h' 3 (by decide))
  unfold ch_cd at e
  intro j hj
  apply ch_c1inj (h j hj) (h' j hj)
  have hj' : j = 0 ∨ j = 1 ∨ j = 2 ∨ j = 3 := by omega
  rcases hj' with rfl | rfl | rfl | rfl <;> omega
/-- a chain that is longer than there are names for columns comes back -/
theorem ch_back {V : (Nat → Nat) → (Nat → Nat) → Prop} {P : (Nat → Nat) → (Nat → Nat) → Nat → Nat → Prop} {i : Nat} {rs cs : Nat → Nat → Nat} {ls es : Nat → Nat} (h : ch_ok V P i rs cs ls es) (hN : ∀ rn cn, V rn cn → ∀ j, j < 4 → (cn j < 16 ∨ cn j = 99)) (hi : 83521 ≤ i) : ∃ a b, a < b ∧ b ≤ i ∧ ∀ j, j < 4 → cs a j = cs b j := by
  obtain ⟨a, b, h1, h2, h3⟩ := am_hole 83521 (fun k => ch_cd (cs k)) (fun k hk => ch_cdlt (hN _ _ (h.1 k (by omega))))
  exact ⟨a, b, h1, by omega, ch_cdinj (hN _ _ (h.1 a (by omega))) (hN _ _ (h.1 b (by omega))) h3⟩
theorem sq_down {P : Nat → Prop} : ∀ (d x : Nat), P x → ¬ P (x + d) → ∃ k, x ≤ k ∧ k < x + d ∧ P k ∧ ¬ P (k + 1) := by
  intro d
  induction d with
  | zero => intro x h1 h2; exact absurd h1 h2
  | succ d ih =>
    intro x h1 h2
    by_cases c : P (x + d)
    · exact ⟨x + d, by omega, by omega, c, h2⟩
    · obtain ⟨k, a, b, p, q⟩ := ih x h1 c
      exact ⟨k, a, by omega, p, q⟩
theorem sq_up {P : Nat → Prop} (d x : Nat) (h : ¬ P x) (h2 : P (x + d)) : ∃ k, x ≤ k ∧ k < x + d ∧ ¬ P k ∧ P (k + 1) := by
  obtain ⟨k, a, b, p, q⟩ := sq_down (P := fun n => ¬ P n) d x h (fun z => z h2)
  exact ⟨k, a, b, p, Classical.not_not.mp q⟩
theorem sq_both {P : Nat → Prop} {a b x y : Nat} (hab : P a ↔ P b) (hx : a ≤ x) (hx' : x ≤ b) (hy : a ≤ y) (hy' : y ≤ b) (px : P x) (py : ¬ P y) :
    (∃ k, a ≤ k ∧ k < b ∧ P k ∧ ¬ P (k + 1)) ∧ (∃ k, a ≤ k ∧ k < b ∧ ¬ P k ∧ P (k + 1)) := by
  have dn : ∀ s t, s ≤ t → a ≤ s → t ≤ b → P s → ¬ P t → ∃ k, a ≤ k ∧ k < b ∧ P k ∧ ¬ P (k + 1) := by
    intro s t h1 h2 h3 p q
    obtain ⟨k, u, v, w, z⟩ := sq_down (P := P) (t - s) s p (by rw [show s + (t - s) = t by omega]; exact q)
    exact ⟨k, by omega, by omega, w, z⟩
  have up : ∀ s t, s ≤ t → a ≤ s → t ≤ b → ¬ P s → P t → ∃ k, a ≤ k ∧ k < b ∧ ¬ P k ∧ P (k + 1) := by
    intro s t h1 h2 h3 p q
    obtain ⟨k, u, v, w, z⟩ := sq_up (P := P) (t - s) s p (by rw [show s + (t - s) = t by omega]; exact q)
    exact ⟨k, by omega, by omega, w, z⟩
  by_cases pa : P a
  · have pb := hab.mp pa
    exact ⟨dn a y hy (by omega) hy' pa py, up y b hy' hy (by omega) py pb⟩
  · have pb : ¬ P b := fun z => pa (hab.mpr z)
    exact ⟨dn x b hx' hx (by omega) px pb, up a x hx (by omega) hx' pa px⟩
/-- the second table's worths are not below the first one's -/
def bl_ge (wf : Nat → Nat → Int) (L M : Nat → Nat → Int) : Prop := ¬ lx_N (fun w => tb_u L * tb_R M (wf w) - tb_u M * tb_R L (wf w))
theorem bl_trans {wf L M N : Nat → Nat → Int} (hL : 0 < tb_u L) (hM : 0 < tb_u M) (hN : 0 < tb_u N) (h1 : bl_ge wf L M) (h2 : bl_ge wf M N) : bl_ge wf L N := by
  unfold bl_ge at *
  have a1 : ¬ lx_N (fun w => tb_u N * (tb_u L * tb_R M (wf w) - tb_u M * tb_R L (wf w))) := by
    rw [lx_pos hN (fun _ _ => rfl)]
    exact h1
  have a2 : ¬ lx_N (fun w => tb_u L * (tb_u M * tb_R N (wf w) - tb_u N * tb_R M (wf w))) := by
    rw [lx_pos hL (fun _ _ => rfl)]
    exact h2
  have a3 := lx_add (c := fun w => tb_u M * (tb_u L * tb_R N (wf w) - tb_u N * tb_R L (wf w))) a1 a2 (by
    intro w _
    try dsimp only
    grind)
  rw [lx_pos hM (fun _ _ => rfl)] at a3
  exact a3
theorem bl_same {wf L M : Nat → Nat → Int} (h : ∀ j, j < 4 → L j = M j) : bl_ge wf L M := by
  unfold bl_ge
  apply lx_zero
  intro w _
  try dsimp only
  rw [tb_ucong h, tb_Rcong h]
  omega
def bl_P (nf wf : Nat → Nat → Int) (m : Nat) (rn cn : Nat → Nat) (l e : Nat) : Prop :=
  l < m ∧ e < 4 ∧ 0 < tb_T (ch_L nf cn) (nf (rn l)) e ∧ lx_N (fun w => tb_T (ch_L nf cn) (wf w) e) ∧
  (∀ j, j < 4 → lx_N (fun w => tb_T (ch_L nf cn) (wf w) j) → cn e ≤ cn j) ∧
  (∀ r, r < m → 0 < tb_T (ch_L nf cn) (nf (rn r)) e →
    tb_R (ch_L nf cn) (nf (rn l)) * tb_T (ch_L nf cn) (nf (rn r)) e < tb_R (ch_L nf cn) (nf (rn r)) * tb_T (ch_L nf cn) (nf (rn l)) e ∨
    (tb_R (ch_L nf cn) (nf (rn l)) * tb_T (ch_L nf cn) (nf (rn r)) e = tb_R (ch_L nf cn) (nf (rn r)) * tb_T (ch_L nf cn) (nf (rn l)) e ∧ rn l ≤ rn r))
def bl_V (nf : Nat → Nat → Int) (m : Nat) (Nm : Nat → Prop) (rn cn : Nat → Nat) : Prop :=
  ch_C nf m Nm rn cn ∧ (∀ r, r < m → 0 ≤ tb_R (ch_L nf cn) (nf (rn r)))
theorem tb_sp {p : Int} (h : 0 < p) : tb_s p = 1 := by
  unfold tb_s
  rw [if_neg (by omega)]
theorem tb_sn {p : Int} (h : p < 0) : tb_s p = -1 := by
  unfold tb_s
  rw [if_pos h]
/-- u * x not negative, u positive -/
theorem tb_nn {u x : Int} (hu : 0 < u) (h : 0 ≤ u * x) : 0 ≤ x := by
  rcases am_lg x 0 with z | z
  · have := Int.mul_neg_of_pos_of_neg hu z
    omega
  · exact z
theorem bl_next {nf wf : Nat → Nat → Int} {m : Nat} {Nm : Nat → Prop} {rn cn : Nat → Nat} {l e : Nat} (h : bl_V nf m Nm rn cn) (hp : bl_P nf wf m rn cn l e) : bl_V nf m Nm (ch_sw rn l (cn e)) (ch_sw cn e (rn l)) := by
  obtain ⟨hC, hR⟩ := h
  obtain ⟨hl, he, p0, _, _, hq⟩ := hp
  have pn : tb_T (ch_L nf cn) (nf (rn l)) e ≠ 0 := by omega
  refine ⟨ch_Cnext hC hl he pn, ?_⟩
  intro r hr
  rw [ch_Lsw]
  have up := tb_upos hC.1
  apply tb_nn up
  rw [tb_pR _ he pn, tb_sp p0, Int.one_mul]
  rcases Nat.decEq r l with z | z
  · rw [ch_swn _ _ z]
    rcases am_lg 0 (tb_T (ch_L nf cn) (nf (rn r)) e) with y | y
    · have := hq r hr y
      have c := Int.mul_comm (tb_T (ch_L nf cn) (nf (rn r)) e) (tb_R (ch_L nf cn) (nf (rn l)))
      omega
    · have a := Int.mul_nonneg (hR r hr) (show 0 ≤ tb_T (ch_L nf cn) (nf (rn l)) e by omega)
      have b := Int.mul_nonneg (show 0 ≤ - tb_T (ch_L nf cn) (nf (rn r)) e by omega) (hR l hl)
      have c := Int.neg_mul (tb_T (ch_L nf cn) (nf (rn r)) e) (tb_R (ch_L nf cn) (nf (rn l)))
      omega
  · rw [z, ch_sws]
    have o1 : tb_T (ch_L nf cn) (nf (cn e)) e = -tb_u (ch_L nf cn) := tb_own1 (ch_L nf cn) he
    have o2 : tb_R (ch_L nf cn) (nf (cn e)) = 0 := tb_ownR (ch_L nf cn) he
    rw [o1, o2]
    have a := Int.mul_nonneg (show 0 ≤ tb_u (ch_L nf cn) by omega) (hR l hl)
    have c := Int.neg_mul (tb_u (ch_L nf cn)) (tb_R (ch_L nf cn) (nf (rn l)))
    omega
theorem bl_step {wf L : Nat → Nat → Int} {g : Nat → Int} {e : Nat} (he : e < 4) (p0 : 0 < tb_T L g e) (hN : lx_N (fun w => tb_T L (wf w) e)) :
    (0 ≤ tb_R L g → bl_ge wf L (la_set L e g)) ∧ (0 < tb_R L g → ¬ bl_ge wf (la_set L e g) L) := by
  have pn : tb_T L g e ≠ 0 := by omega
  have key : ∀ w, tb_u L * tb_R (la_set L e g) (wf w) - tb_u (la_set L e g) * tb_R L (wf w) = tb_R L g * -(tb_T L (wf w) e) := by
    intro w
    rw [tb_pR _ he pn, tb_pu he pn, tb_sp p0]
    grind
  constructor
  · intro h
    unfold bl_ge
    exact lx_nn h (lx_anti hN (c := fun w => -(tb_T L (wf w) e)) (fun _ _ => rfl)) (fun w _ => key w)
  · intro h hc
    unfold bl_ge at hc
    apply hc
    rw [lx_pos h (a := fun w => tb_T L (wf w) e) (by
      intro w _
      have := key w
      try dsimp only
      grind)]
    exact hN
theorem bl_cycle {nf wf : Nat → Nat → Int} {m : Nat} {Nm : Nat → Prop} {i : Nat} {rs cs : Nat → Nat → Nat} {ls es : Nat → Nat} (hNm : ∀ n, Nm n → n ≤ 99) (h : ch_ok (bl_V nf m Nm) (bl_P nf wf m) i rs cs ls es) {a b : Nat} (hab : a < b) (hb : b ≤ i) (he : ∀ j, j < 4 → cs a j = cs b j) : False := by
  obtain ⟨hV, hS⟩ := h
  have hP : ∀ k, k < i → bl_P nf wf m (rs k) (cs k) (ls k) (es k) := fun k hk => (hS k hk).1
  have hD : ∀ k, k ≤ i → la_D (ch_L nf (cs k)) ≠ 0 := fun k hk => (hV k hk).1.1
  have hu : ∀ k, k ≤ i → 0 < tb_u (ch_L nf (cs k)) := fun k hk => tb_upos (hD k hk)
  have hL : ∀ k, k < i → ch_L nf (cs (k + 1)) = la_set (ch_L nf (cs k)) (es k) (nf (rs k (ls k))) := by
    intro k hk
    rw [(hS k hk).2.2, ch_Lsw]
  have ge1 : ∀ k, k < i → bl_ge wf (ch_L nf (cs k)) (ch_L nf (cs (k + 1))) := by
    intro k hk
    obtain ⟨hl, he', p0, hN, _, _⟩ := hP k hk
    rw [hL k hk]
    exact (bl_step he' p0 hN).1 ((hV k (by omega)).2 _ hl)
  have geN : ∀ d k, k + d ≤ i → bl_ge wf (ch_L nf (cs k)) (ch_L nf (cs (k + d))) := by
    intro d
    induction d with
    | zero => intro k hk; exact bl_same (fun _ _ => rfl)
    | succ d ih =>
      intro k hk
      exact bl_trans (hu k (by omega)) (hu (k + d) (by omega)) (hu (k + (d + 1)) hk) (ih k (by omega)) (ge1 (k + d) (by omega))
  have eqL : ∀ j, j < 4 → ch_L nf (cs b) j = ch_L nf (cs a) j := by
    intro j hj
    show nf (cs b j) = nf (cs a j)
    rw [he j hj]
  have deg : ∀ k, a ≤ k → k < b → tb_R (ch_L nf (cs k)) (nf (rs k (ls k))) = 0 := by
    intro k h1 h2
    obtain ⟨hl, he', p0, hN, _, _⟩ := hP k (by omega)
    have nn := (hV k (by omega)).2 _ hl
    rcases Int.lt_or_eq_of_le nn with z | z
    · refine absurd ?_ ((bl_step he' p0 hN).2 z)
      rw [← hL k (by omega)]
      have g1 := geN (b - (k + 1)) (k + 1) (by omega)
      rw [show k + 1 + (b - (k + 1)) = b by omega] at g1
      have g2 := geN (k - a) a (by omega)
      rw [show a + (k - a) = k by omega] at g2
      exact bl_trans (hu _ (by omega)) (hu _ (by omega)) (hu _ (by omega)) g1 (bl_trans (hu _ (by omega)) (hu _ (by omega)) (hu _ (by omega)) (bl_same eqL) g2)
    · exact z.symm
  have zero : ∀ f d, a + d ≤ b → (tb_R (ch_L nf (cs (a + d))) f = 0 ↔ tb_R (ch_L nf (cs a)) f = 0) := by
    intro f d
    induction d with
    | zero => intro _; exact Iff.rfl
    | succ d ih =>
      intro hd
      rw [← ih (by omega)]
      obtain ⟨hl, he', p0, hN, _, _⟩ := hP (a + d) (by omega)
      have pn : tb_T (ch_L nf (cs (a + d))) (nf (rs (a + d) (ls (a + d)))) (es (a + d)) ≠ 0 := by omega
      have q := tb_pR f he' pn
      rw [tb_sp p0, deg (a + d) (by omega) (by omega), ← hL (a + d) (by omega)] at q
      have up := hu (a + d) (by omega)
      show tb_R (ch_L nf (cs (a + d + 1))) f = 0 ↔ _
      generalize tb_R (ch_L nf (cs (a + d + 1))) f = X at *
      generalize tb_R (ch_L nf (cs (a + d))) f = Y at *
      generalize tb_u (ch_L nf (cs (a + d))) = U at *
      generalize tb_T (ch_L nf (cs (a + d))) (nf (rs (a + d) (ls (a + d)))) (es (a + d)) = p at *
      generalize tb_T (ch_L nf (cs (a + d))) f (es (a + d)) = t at *
      have q' : U * X = Y * p := by grind
      constructor
      · intro z
        rw [z] at q'
        have : Y * p = 0 := by omega
        rcases Int.mul_eq_zero.mp this with y | y
        · exact y
        · omega
      · intro z
        rw [z] at q'
        have : U * X = 0 := by omega
        rcases Int.mul_eq_zero.mp this with y | y
        · omega
        · exact y
  have zero2 : ∀ f k k', a ≤ k → k ≤ b → a ≤ k' → k' ≤ b → tb_R (ch_L nf (cs k)) f = 0 → tb_R (ch_L nf (cs k')) f = 0 := by
    intro f k k' h1 h2 h3 h4 z
    have A := zero f (k - a) (by omega)
    have B := zero f (k' - a) (by omega)
    rw [show a + (k - a) = k by omega] at A
    rw [show a + (k' - a) = k' by omega] at B
    exact B.mpr (A.mp z)
  have ent : ∀ k, k < i → ¬ ∃ j, j < 4 ∧ cs (k + 1) j = cs k (es k) := by
    intro k hk ⟨j, hj, ej⟩
    obtain ⟨hl, he', p0, hN, _, _⟩ := hP k hk
    rw [(hS k hk).2.2] at ej
    rcases Nat.decEq j (es k) with z | z
    · rw [ch_swn _ _ z] at ej
      exact z (la_inj (hD k (by omega)) hj he' (show nf (cs k j) = nf (cs k (es k)) by rw [ej]))
    · rw [z, ch_sws] at ej
      have o : tb_T (ch_L nf (cs k)) (nf (cs k (es k))) (es k) = -tb_u (ch_L nf (cs k)) := tb_own1 _ he'
      rw [ej] at p0
      have := hu k (by omega)
      omega
  have hNB : ∀ k n, k ≤ i → (∃ j, j < 4 ∧ cs k j = n) → Nm n := by
    intro k n hk ⟨j, hj, ej⟩
    rw [← ej]
    exact (hV k hk).1.2.2.2 j hj
  obtain ⟨t, ⟨x, y, hx1, hx2, hy1, hy2, tx, ty⟩, tmax⟩ := am_greatest (fun n => ∃ x y, a ≤ x ∧ x ≤ b ∧ a ≤ y ∧ y ≤ b ∧ (∃ j, j < 4 ∧ cs x j = n) ∧ ¬ ∃ j, j < 4 ∧ cs y j = n) 99
    (fun n ⟨x, y, h1, h2, h3, h4, h5, h6⟩ => hNm n (hNB x n (by omega) h5))
    ⟨cs a (es a), a, a + 1, by omega, by omega, by omega, by omega, ⟨es a, (hP a (by omega)).2.1, rfl⟩, ent a (by omega)⟩
  obtain ⟨⟨k2, u1, u2, nb2, nb2'⟩, ⟨k1, v1, v2, nb1, nb1'⟩⟩ := sq_both (P := fun k => ∃ j, j < 4 ∧ cs k j = t) (a := a) (b := b) (x := x) (y := y)
    ⟨fun ⟨j, hj, ej⟩ => ⟨j, hj, by rw [← he j hj]; exact ej⟩, fun ⟨j, hj, ej⟩ => ⟨j, hj, by rw [he j hj]; exact ej⟩⟩ hx1 hx2 hy1 hy2 tx ty
  obtain ⟨hl1, he1, p1, hN1, _, hr1⟩ := hP k1 (by omega)
  obtain ⟨hl2, he2, p2, hN2, hm2, _⟩ := hP k2 (by omega)
  have et1 : rs k1 (ls k1) = t := by
    obtain ⟨j, hj, ej⟩ := nb1'
    rw [(hS k1 (by omega)).2.2] at ej
    rcases Nat.decEq j (es k1) with z | z
    · rw [ch_swn _ _ z] at ej
      exact absurd ⟨j, hj, ej⟩ nb1
    · rw [z, ch_sws] at ej
      exact ej
  have et2 : cs k2 (es k2) = t := by
    obtain ⟨j, hj, ej⟩ := nb2
    rcases Nat.decEq j (es k2) with z | z
    · exact absurd ⟨j, hj, by rw [(hS k2 (by omega)).2.2, ch_swn _ _ z]; exact ej⟩ nb2'
    · rw [← z]
      exact ej
  have up1 := hu k1 (by omega)
  have up2 := hu k2 (by omega)
  have big : lx_N (fun w => tb_u (ch_L nf (cs k2)) * tb_T (ch_L nf (cs k1)) (wf w) (es k1)) := by
    rw [lx_pos up2 (fun _ _ => rfl)]
    exact hN1
  have some : ∃ c, c < 4 ∧ lx_N (fun w => -(tb_T (ch_L nf (cs k2)) (wf w) c * tb_T (ch_L nf (cs k1)) (ch_L nf (cs k2) c) (es k1))) := by
    apply Classical.byContradiction
    intro no
    have n0 : ∀ c, c < 4 → ¬ lx_N (fun w => -(tb_T (ch_L nf (cs k2)) (wf w) c * tb_T (ch_L nf (cs k1)) (ch_L nf (cs k2) c) (es k1))) := fun c hc z => no ⟨c, hc, z⟩
    have s1 := lx_add (n0 0 (by decide)) (n0 1 (by decide)) (c := fun w => -(tb_T (ch_L nf (cs k2)) (wf w) 0 * tb_T (ch_L nf (cs k1)) (ch_L nf (cs k2) 0) (es k1)) + -(tb_T (ch_L nf (cs k2)) (wf w) 1 * tb_T (ch_L nf (cs k1)) (ch_L nf (cs k2) 1) (es k1))) (fun _ _ => rfl)
    have s2 := lx_add s1 (n0 2 (by decide)) (c := fun w => -(tb_T (ch_L nf (cs k2)) (wf w) 0 * tb_T (ch_L nf (cs k1)) (ch_L nf (cs k2) 0) (es k1)) + -(tb_T (ch_L nf (cs k2)) (wf w) 1 * tb_T (ch_L nf (cs k1)) (ch_L nf (cs k2) 1) (es k1)) + -(tb_T (ch_L nf (cs k2)) (wf w) 2 * tb_T (ch_L nf (cs k1)) (ch_L nf (cs k2) 2) (es k1))) (fun _ _ => rfl)
    have s3 := lx_add s2 (n0 3 (by decide)) (c := fun w => tb_u (ch_L nf (cs k2)) * tb_T (ch_L nf (cs k1)) (wf w) (es k1)) (fun w _ => tb_dir (ch_L nf (cs k1)) (ch_L nf (cs k2)) (wf w) (es k1))
    exact s3 big
  obtain ⟨c, hc, hx⟩ := some
  have eg : tb_T (ch_L nf (cs k1)) (ch_L nf (cs k2) c) (es k1) = tb_T (ch_L nf (cs k1)) (nf (cs k2 c)) (es k1) := rfl
  rw [eg] at hx
  have own : ∀ j, j < 4 → cs k1 j = cs k2 c → tb_T (ch_L nf (cs k1)) (nf (cs k2 c)) (es k1) ≤ 0 ∧ (j ≠ es k1 → tb_T (ch_L nf (cs k1)) (nf (cs k2 c)) (es k1) = 0) := by
    intro j hj ej
    rw [← ej]
    rcases Nat.decEq j (es k1) with z | z
    · have o : tb_T (ch_L nf (cs k1)) (nf (cs k1 j)) (es k1) = 0 := tb_own0 (ch_L nf (cs k1)) hj he1 z
      exact ⟨by omega, fun _ => o⟩
    · have o : tb_T (ch_L nf (cs k1)) (nf (cs k1 j)) (es k1) = -tb_u (ch_L nf (cs k1)) := by
        rw [z]
        exact tb_own1 (ch_L nf (cs k1)) he1
      exact ⟨by omega, fun q => absurd z q⟩
  have gne : tb_T (ch_L nf (cs k1)) (nf (cs k2 c)) (es k1) ≠ 0 := by
    intro z
    rw [z] at hx
    exact lx_zero (fun w _ => by (try dsimp only); omega) hx
  have rf : cs k2 c ≤ t := by
    apply tmax
    by_cases nb : ∃ j, j < 4 ∧ cs k1 j = cs k2 c
    · obtain ⟨j, hj, ej⟩ := nb
      have ee : j = es k1 := by
        rcases Nat.decEq j (es k1) with z | z
        · exact absurd ((own j hj ej).2 z) gne
        · exact z
      rw [ee] at ej
      exact ⟨k1, k1 + 1, by omega, by omega, by omega, by omega, ⟨es k1, he1, ej⟩, by rw [← ej]; exact ent k1 (by omega)⟩
    · exact ⟨k2, k1, by omega, by omega, by omega, by omega, ⟨c, hc, rfl⟩, nb⟩
  by_cases ct : cs k2 c = t
  · have ce : c = es k2 := la_inj (hD k2 (by omega)) hc he2 (show nf (cs k2 c) = nf (cs k2 (es k2)) by rw [ct, et2])
    rw [ct, ← et1] at hx
    refine absurd hx (lx_anti (a := fun w => tb_T (ch_L nf (cs k2)) (wf w) c * tb_T (ch_L nf (cs k1)) (nf (rs k1 (ls k1))) (es k1)) ?_ (fun _ _ => rfl))
    rw [lx_pos p1 (a := fun w => tb_T (ch_L nf (cs k2)) (wf w) c) (fun w _ => Int.mul_comm _ _), ce]
    exact hN2
  · have rlt : cs k2 c < t := by omega
    have nh : ¬ lx_N (fun w => tb_T (ch_L nf (cs k2)) (wf w) c) := by
      intro z
      have := hm2 c hc z
      omega
    have gpos : 0 < tb_T (ch_L nf (cs k1)) (nf (cs k2 c)) (es k1) := by
      rcases am_lg 0 (tb_T (ch_L nf (cs k1)) (nf (cs k2 c)) (es k1)) with z | z
      · exact z
      · refine absurd hx (lx_nn (k := -(tb_T (ch_L nf (cs k1)) (nf (cs k2 c)) (es k1))) (by omega) nh (fun w _ => ?_))
        try dsimp only
        grind
    rcases (hV k1 (by omega)).1.2.1.1 (cs k2 c) (hNB k2 _ (by omega) ⟨c, hc, rfl⟩) with ⟨r0, hr0, er0⟩ | ⟨j, hj, ej⟩
    · have z2 : tb_R (ch_L nf (cs k2)) (nf (cs k2 c)) = 0 := tb_ownR (ch_L nf (cs k2)) hc
      have z1 := zero2 (nf (cs k2 c)) k2 k1 (by omega) (by omega) (by omega) (by omega) z2
      have d1 := deg k1 (by omega) (by omega)
      have q := hr1 r0 hr0 (by rw [er0]; exact gpos)
      rw [er0, z1, d1, et1] at q
      omega
    · have := (own j hj ej).1
      omega
theorem bl_bound {nf wf : Nat → Nat → Int} {m : Nat} {Nm : Nat → Prop} (hNm : ∀ n, Nm n → (n < 16 ∨ n = 99)) {i : Nat} {rn cn : Nat → Nat} (h : ch_at (bl_V nf m Nm) (bl_P nf wf m) i rn cn) : i < 83521 := by
  obtain ⟨rs, cs, ls, es, hc, _, _⟩ := h
  rcases Nat.lt_or_ge i 83521 with z | z
  · exact z
  · obtain ⟨a, b, h1, h2, h3⟩ := ch_back hc (fun rn cn hv j hj => hNm _ (hv.1.2.2.2 j hj)) z
    exact absurd (bl_cycle (fun n hn => by rcases hNm n hn with y | y <;> omega) hc h1 h2 h3) (fun f => f)
end
section
theorem lx_tri {a c : Nat → Int} (ha : ¬ lx_N a) (hz : ∃ w, w < 4 ∧ a w ≠ 0) (h : ∀ w, w < 4 → c w = - a w) : lx_N c := by
  have h0 := h 0 (by decide)
  have h1 := h 1 (by decide)
  have h2 := h 2 (by decide)
  have h3 := h 3 (by decide)
  have z : a 0 ≠ 0 ∨ a 1 ≠ 0 ∨ a 2 ≠ 0 ∨ a 3 ≠ 0 := by
    obtain ⟨w, hw, e⟩ := hz
    have hw' : w = 0 ∨ w = 1 ∨ w = 2 ∨ w = 3 := by omega
    rcases hw' with rfl | rfl | rfl | rfl
    · exact Or.inl e
    · exact Or.inr (Or.inl e)
    · exact Or.inr (Or.inr (Or.inl e))
    · exact Or.inr (Or.inr (Or.inr e))
  unfold lx_N at *
  omega
def du_P (nf wf : Nat → Nat → Int) (m : Nat) (rn cn : Nat → Nat) (l e : Nat) : Prop :=
  l < m ∧ e < 4 ∧ tb_R (ch_L nf cn) (nf (rn l)) < 0 ∧ tb_T (ch_L nf cn) (nf (rn l)) e < 0 ∧
  (∀ j, j < 4 → tb_T (ch_L nf cn) (nf (rn l)) j < 0 → ¬ lx_N (fun w => tb_T (ch_L nf cn) (wf w) j * -(tb_T (ch_L nf cn) (nf (rn l)) e) - tb_T (ch_L nf cn) (wf w) e * -(tb_T (ch_L nf cn) (nf (rn l)) j))) ∧
  (∃ w, w < 4 ∧ tb_T (ch_L nf cn) (wf w) e ≠ 0)
def du_V (nf wf : Nat → Nat → Int) (m : Nat) (Nm : Nat → Prop) (rn cn : Nat → Nat) : Prop :=
  ch_C nf m Nm rn cn ∧ (∀ j, j < 4 → ¬ lx_N (fun w => tb_T (ch_L nf cn) (wf w) j))
theorem du_next {nf wf : Nat → Nat → Int} {m : Nat} {Nm : Nat → Prop} {rn cn : Nat → Nat} {l e : Nat} (h : du_V nf wf m Nm rn cn) (hp : du_P nf wf m rn cn l e) : du_V nf wf m Nm (ch_sw rn l (cn e)) (ch_sw cn e (rn l)) := by
  obtain ⟨hC, hT⟩ := h
  obtain ⟨hl, he, _, p0, hq, _⟩ := hp
  have pn : tb_T (ch_L nf cn) (nf (rn l)) e ≠ 0 := by omega
  refine ⟨ch_Cnext hC hl he pn, ?_⟩
  intro j hj
  rw [ch_Lsw]
  have up := tb_upos hC.1
  rcases Nat.decEq j e with z | z
  · rw [← lx_pos up (c := fun w => tb_T (ch_L nf cn) (wf w) j * -(tb_T (ch_L nf cn) (nf (rn l)) e) + tb_T (ch_L nf cn) (wf w) e * tb_T (ch_L nf cn) (nf (rn l)) j) (by
      intro w _
      try dsimp only
      rw [tb_pTj _ he hj z pn, tb_sn p0]
      grind)]
    rcases am_lg (tb_T (ch_L nf cn) (nf (rn l)) j) 0 with y | y
    · rw [lx_eq (a := fun w => tb_T (ch_L nf cn) (wf w) j * -(tb_T (ch_L nf cn) (nf (rn l)) e) - tb_T (ch_L nf cn) (wf w) e * -(tb_T (ch_L nf cn) (nf (rn l)) j)) (by
        intro w _
        try dsimp only
        grind)]
      exact hq j hj y
    · exact lx_add (lx_nn (k := -(tb_T (ch_L nf cn) (nf (rn l)) e)) (by omega) (hT j hj) (c := fun w => tb_T (ch_L nf cn) (wf w) j * -(tb_T (ch_L nf cn) (nf (rn l)) e)) (fun w _ => Int.mul_comm _ _))
        (lx_nn y (hT e he) (c := fun w => tb_T (ch_L nf cn) (wf w) e * tb_T (ch_L nf cn) (nf (rn l)) j) (fun w _ => Int.mul_comm _ _)) (fun _ _ => rfl)
  · rw [z, lx_eq (a := fun w => tb_T (ch_L nf cn) (wf w) e) (by
      intro w _
      try dsimp only
      rw [tb_pTk _ he pn, tb_sn p0]
      omega)]
    exact hT e he
theorem du_step {wf L : Nat → Nat → Int} {g : Nat → Int} {e : Nat} (he : e < 4) (p0 : tb_T L g e < 0) (hN : ¬ lx_N (fun w => tb_T L (wf w) e)) (hz : ∃ w, w < 4 ∧ tb_T L (wf w) e ≠ 0) (hR : tb_R L g < 0) :
    bl_ge wf (la_set L e g) L ∧ ¬ bl_ge wf L (la_set L e g) := by
  have pn : tb_T L g e ≠ 0 := by omega
  have key : ∀ w, tb_u L * tb_R (la_set L e g) (wf w) - tb_u (la_set L e g) * tb_R L (wf w) = (-(tb_R L g)) * -(tb_T L (wf w) e) := by
    intro w
    rw [tb_pR _ he pn, tb_pu he pn, tb_sn p0]
    grind
  constructor
  · unfold bl_ge
    refine lx_nn (k := -(tb_R L g)) (by omega) hN (fun w _ => ?_)
    have := key w
    try dsimp only
    grind
  · unfold bl_ge
    intro hc
    apply hc
    rw [lx_pos (show 0 < -(tb_R L g) by omega) (a := fun w => -(tb_T L (wf w) e)) (fun w _ => key w)]
    exact lx_tri hN hz (fun _ _ => rfl)
theorem du_cycle {nf wf : Nat → Nat → Int} {m : Nat} {Nm : Nat → Prop} {i : Nat} {rs cs : Nat → Nat → Nat} {ls es : Nat → Nat} (h : ch_ok (du_V nf wf m Nm) (du_P nf wf m) i rs cs ls es) {a b : Nat} (hab : a < b) (hb : b ≤ i) (he : ∀ j, j < 4 → cs a j = cs b j) : False := by
  obtain ⟨hV, hS⟩ := h
  have hP : ∀ k, k < i → du_P nf wf m (rs k) (cs k) (ls k) (es k) := fun k hk => (hS k hk).1
  have hu : ∀ k, k ≤ i → 0 < tb_u (ch_L nf (cs k)) := fun k hk => tb_upos (hV k hk).1.1
  have hL : ∀ k, k < i → ch_L nf (cs (k + 1)) = la_set (ch_L nf (cs k)) (es k) (nf (rs k (ls k))) := by
    intro k hk
    rw [(hS k hk).2.2, ch_Lsw]
  have st : ∀ k, k < i → bl_ge wf (ch_L nf (cs (k + 1))) (ch_L nf (cs k)) ∧ ¬ bl_ge wf (ch_L nf (cs k)) (ch_L nf (cs (k + 1))) := by
    intro k hk
    obtain ⟨hl, he', r0, p0, _, hz⟩ := hP k hk
    rw [hL k hk]
    exact du_step he' p0 ((hV k (by omega)).2 _ he') hz r0
  have geN : ∀ d k, k + d ≤ i → bl_ge wf (ch_L nf (cs (k + d))) (ch_L nf (cs k)) := by
    intro d
    induction d with
    | zero => intro k hk; exact bl_same (fun _ _ => rfl)
    | succ d ih =>
      intro k hk
      exact bl_trans (hu (k + (d + 1)) hk) (hu (k + d) (by omega)) (hu k (by omega)) (st (k + d) (by omega)).1 (ih k (by omega))
  have eqL : ∀ j, j < 4 → ch_L nf (cs a) j = ch_L nf (cs b) j := by
    intro j hj
    show nf (cs a j) = nf (cs b j)
    rw [he j hj]
  have g1 := geN (b - (a + 1)) (a + 1) (by omega)
  rw [show a + 1 + (b - (a + 1)) = b by omega] at g1
  exact (st a (by omega)).2 (bl_trans (hu a (by omega)) (hu b (by omega)) (hu (a + 1) (by omega)) (bl_same eqL) g1)
theorem du_bound {nf wf : Nat → Nat → Int} {m : Nat} {Nm : Nat → Prop} (hNm : ∀ n, Nm n → (n < 16 ∨ n = 99)) {i : Nat} {rn cn : Nat → Nat} (h : ch_at (du_V nf wf m Nm) (du_P nf wf m) i rn cn) : i < 83521 := by
  obtain ⟨rs, cs, ls, es, hc, _, _⟩ := h
  rcases Nat.lt_or_ge i 83521 with z | z
  · exact z
  · obtain ⟨a, b, h1, h2, h3⟩ := ch_back hc (fun rn cn hv j hj => hNm _ (hv.1.2.2.2 j hj)) z
    exact absurd (du_cycle hc h1 h2 h3) (fun f => f)
/-- no point is worth more than the corner of a table whose columns lose -/
theorem oq_opt {L wf : Nat → Nat → Int} {y : Nat → Int} (hT : ∀ j, j < 4 → ¬ lx_N (fun w => tb_T L (wf w) j)) (hy : ∀ j, j < 4 → 0 ≤ tb_val (L j) y) : ¬ lx_N (fun w => tb_R L (wf w) * y 4 - tb_u L * tb_val (wf w) y) := by
  have n0 : ∀ c, c < 4 → ¬ lx_N (fun w => tb_T L (wf w) c * tb_val (L c) y) := fun c hc => lx_nn (hy c hc) (hT c hc) (fun w _ => Int.mul_comm _ _)
  have s1 := lx_add (n0 0 (by decide)) (n0 1 (by decide)) (c := fun w => tb_T L (wf w) 0 * tb_val (L 0) y + tb_T L (wf w) 1 * tb_val (L 1) y) (fun _ _ => rfl)
  have s2 := lx_add s1 (n0 2 (by decide)) (c := fun w => tb_T L (wf w) 0 * tb_val (L 0) y + tb_T L (wf w) 1 * tb_val (L 1) y + tb_T L (wf w) 2 * tb_val (L 2) y) (fun _ _ => rfl)
  exact lx_add s2 (n0 3 (by decide)) (fun w _ => by
    have := tb_sem L (wf w) y
    try dsimp only
    omega)
/-- a row that no point can mend -/
theorem oq_inf {L : Nat → Nat → Int} {f y : Nat → Int} (hD : la_D L ≠ 0) (hR : tb_R L f < 0) (hT : ∀ j, j < 4 → 0 ≤ tb_T L f j) (hy : ∀ j, j < 4 → 0 ≤ tb_val (L j) y) (h4 : 0 < y 4) : tb_val f y < 0 := by
  have s := tb_sem L f y
  have a0 := Int.mul_nonneg (hT 0 (by decide)) (hy 0 (by decide))
  have a1 := Int.mul_nonneg (hT 1 (by decide)) (hy 1 (by decide))
  have a2 := Int.mul_nonneg (hT 2 (by decide)) (hy 2 (by decide))
  have a3 := Int.mul_nonneg (hT 3 (by decide)) (hy 3 (by decide))
  have b := Int.mul_neg_of_neg_of_pos hR h4
  rcases am_lg (tb_val f y) 0 with z | z
  · exact z
  · have := Int.mul_nonneg (show 0 ≤ tb_u L by have := tb_upos hD; omega) z
    omega
/-- the corner keeps all names -/
theorem oq_vx {nf : Nat → Nat → Int} {m : Nat} {Nm : Nat → Prop} {rn cn : Nat → Nat} (h : bl_V nf m Nm rn cn) {n : Nat} (hn : Nm n) : 0 ≤ tb_val (nf n) (tb_vx (ch_L nf cn)) := by
  rw [tb_vxval]
  rcases h.1.2.1.1 n hn with ⟨r, hr, e⟩ | ⟨j, hj, e⟩
  · rw [← e]
    exact h.2 r hr
  · rw [← e]
    have : tb_R (ch_L nf cn) (nf (cn j)) = 0 := tb_ownR (ch_L nf cn) hj
    omega
theorem tb_comp (L : Nat → Nat → Int) (f : Nat → Int) {i : Nat} (hi : i < 4) : tb_u L * f i = -(tb_T L f 0 * L 0 i + tb_T L f 1 * L 1 i + tb_T L f 2 * L 2 i + tb_T L f 3 * L 3 i) := by
  have hi' : i = 0 ∨ i = 1 ∨ i = 2 ∨ i = 3 := by omega
  have c : la_D L * f i = la_dot f (la_v L 0) * L 0 i + la_dot f (la_v L 1) * L 1 i + la_dot f (la_v L 2) * L 2 i + la_dot f (la_v L 3) * L 3 i := by
    rcases hi' with rfl | rfl | rfl | rfl
    · exact la_cr0 L f
    · exact la_cr1 L f
    · exact la_cr2 L f
    · exact la_cr3 L f
  unfold tb_u tb_T
  generalize tb_s (la_D L) = s
  rw [Int.mul_assoc, c]
  grind
theorem tb_uabs {L M : Nat → Nat → Int} (h : la_D M = la_D L ∨ la_D M = -la_D L) : tb_u M = tb_u L := by
  unfold tb_u tb_s
  rcases h with e | e
  · rw [e]
  · rw [e]
    split <;> split <;> omega
/-- the column of the additional variable is closed -/
theorem cl_core {L M : Nat → Nat → Int} {k : Nat} (hk : k < 4) (hL : L k = la_e 3) (hM3 : M 3 = la_e 3) (hMk : ∀ i, i ≠ 3 → k ≠ 3 → M k i = L 3 i) (hM : ∀ j, j < 3 → j ≠ k → ∀ i, i ≠ 3 → M j i = L j i) (hM0 : ∀ j, j < 3 → M j 3 = 0) (hD : la_D L ≠ 0) :
    la_D M ≠ 0 ∧ tb_u M = tb_u L ∧ ∀ f f' : Nat → Int, f' 3 = 0 → (∀ i, i ≠ 3 → f' i = f i) → tb_T M f' 3 = 0 ∧ (k ≠ 3 → tb_T M f' k = tb_T L f 3) ∧ (∀ j, j < 3 → j ≠ k → tb_T M f' j = tb_T L f j) ∧ tb_R M f' = tb_R L f := by
  have hk' : k = 0 ∨ k = 1 ∨ k = 2 ∨ k = 3 := by omega
  have dM : la_D M = la_m3 (M 0) (M 1) (M 2) 0 1 2 := by
    rw [← la_diag M (show 3 < 4 by decide), hM3, tb_ei 3 _ (by decide)]
    simp [la_v, la_cof]
  have dL : la_D L = la_v L k 3 := by
    rw [← la_diag L hk, hL, tb_ei 3 _ (by decide)]
  have dd : la_D M = la_D L ∨ la_D M = -la_D L := by
    rw [dM, dL]
    rcases hk' with rfl | rfl | rfl | rfl
    · right
      unfold la_m3
      rw [hMk 0 (by decide) (by decide), hMk 1 (by decide) (by decide), hMk 2 (by decide) (by decide), hM 1 (by decide) (by decide) 0 (by decide), hM 1 (by decide) (by decide) 1 (by decide), hM 1 (by decide) (by decide) 2 (by decide), hM 2 (by decide) (by decide) 0 (by decide), hM 2 (by decide) (by decide) 1 (by decide), hM 2 (by decide) (by decide) 2 (by decide)]
      simp [la_v, la_cof, la_m3]
      grind
    · right
      unfold la_m3
      rw [hMk 0 (by decide) (by decide), hMk 1 (by decide) (by decide), hMk 2 (by decide) (by decide), hM 0 (by decide) (by decide) 0 (by decide), hM 0 (by decide) (by decide) 1 (by decide), hM 0 (by decide) (by decide) 2 (by decide), hM 2 (by decide) (by decide) 0 (by decide), hM 2 (by decide) (by decide) 1 (by decide), hM 2 (by decide) (by decide) 2 (by decide)]
      simp [la_v, la_cof, la_m3]
      grind
    · right
      unfold la_m3
      rw [hMk 0 (by decide) (by decide), hMk 1 (by decide) (by decide), hMk 2 (by decide) (by decide), hM 1 (by decide) (by decide) 0 (by decide), hM 1 (by decide) (by decide) 1 (by decide), hM 1 (by decide) (by decide) 2 (by decide), hM 0 (by decide) (by decide) 0 (by decide), hM 0 (by decide) (by decide) 1 (by decide), hM 0 (by decide) (by decide) 2 (by decide)]
      simp [la_v, la_cof, la_m3]
    · left
      unfold la_m3
      rw [hM 0 (by decide) (by decide) 0 (by decide), hM 0 (by decide) (by decide) 1 (by decide), hM 0 (by decide) (by decide) 2 (by decide), hM 1 (by decide) (by decide) 0 (by decide), hM 1 (by decide) (by decide) 1 (by decide), hM 1 (by decide) (by decide) 2 (by decide), hM 2 (by decide) (by decide) 0 (by decide), hM 2 (by decide) (by decide) 1 (by decide), hM 2 (by decide) (by decide) 2 (by decide)]
      simp [la_v, la_cof, la_m3]
  have hDM : la_D M ≠ 0 := by omega
  have hu : tb_u M = tb_u L := tb_uabs dd
  refine ⟨hDM, hu, ?_⟩
  intro f f' h3 hf
  have eL : ∀ i, i < 3 → L k i = 0 := by
    intro i hi
    rw [hL]
    unfold la_e
    rw [if_neg (by omega)]
  have eL4 : L k 4 = 0 := by
    rw [hL]
    rfl
  have eM : ∀ i, i < 3 → M 3 i = 0 := by
    intro i hi
    rw [hM3]
    unfold la_e
    rw [if_neg (by omega)]
  have eM4 : M 3 4 = 0 := by
    rw [hM3]
    rfl
  have tt : ∀ j, j < 4 → (fun j => if j = 3 then (0 : Int) else if j = k then tb_T L f 3 else tb_T L f j) j = tb_T M f' j := by
    intro j hj
    refine tb_uni (t := fun j => if j = 3 then (0 : Int) else if j = k then tb_T L f 3 else tb_T L f j) (f := f') hDM ?_ hj
    intro i hi
    rw [hu]
    rcases Nat.decEq i 3 with z | z
    · rw [hf i z, tb_comp L f hi, eM i (by omega)]
      have ek := eL i (by omega)
      rcases hk' with rfl | rfl | rfl | rfl
      · rw [hMk i z (by decide), hM 1 (by decide) (by decide) i z, hM 2 (by decide) (by decide) i z, ek]
        simp
        omega
      · rw [hMk i z (by decide), hM 0 (by decide) (by decide) i z, hM 2 (by decide) (by decide) i z, ek]
        simp
        omega
      · rw [hMk i z (by decide), hM 0 (by decide) (by decide) i z, hM 1 (by decide) (by decide) i z, ek]
        simp
      · rw [hM 0 (by decide) (by decide) i z, hM 1 (by decide) (by decide) i z, hM 2 (by decide) (by decide) i z, ek]
        simp
    · rw [z, h3, hM0 0 (by decide), hM0 1 (by decide), hM0 2 (by decide)]
      simp
  have t3 : tb_T M f' 3 = 0 := (tt 3 (by decide)).symm
  have tk : k ≠ 3 → tb_T M f' k = tb_T L f 3 := by
    intro h
    rw [← tt k hk]
    try dsimp only
    rw [if_neg h, if_pos rfl]
  have tj : ∀ j, j < 3 → j ≠ k → tb_T M f' j = tb_T L f j := by
    intro j hj h
    rw [← tt j (by omega)]
    try dsimp only
    rw [if_neg (by omega), if_neg h]
  refine ⟨t3, tk, tj, ?_⟩
  unfold tb_R
  rw [hu, hf 4 (by decide), t3]
  rcases hk' with rfl | rfl | rfl | rfl
  · rw [tk (by decide), tj 1 (by decide) (by decide), tj 2 (by decide) (by decide), hMk 4 (by decide) (by decide), hM 1 (by decide) (by decide) 4 (by decide), hM 2 (by decide) (by decide) 4 (by decide), eL4]
    omega
  · rw [tk (by decide), tj 0 (by decide) (by decide), tj 2 (by decide) (by decide), hMk 4 (by decide) (by decide), hM 0 (by decide) (by decide) 4 (by decide), hM 2 (by decide) (by decide) 4 (by decide), eL4]
    omega
  · rw [tk (by decide), tj 0 (by decide) (by decide), tj 1 (by decide) (by decide), hMk 4 (by decide) (by decide), hM 0 (by decide) (by decide) 4 (by decide), hM 1 (by decide) (by decide) 4 (by decide), eL4]
    omega
  · rw [tj 0 (by decide) (by decide), tj 1 (by decide) (by decide), tj 2 (by decide) (by decide), hM 0 (by decide) (by decide) 4 (by decide), hM 1 (by decide) (by decide) 4 (by decide), hM 2 (by decide) (by decide) 4 (by decide), eL4]
    omega
end
section
theorem ex_ix {r c : Nat} : nI r * 5 + nI c = nI (5 * r + c) := by
  rw [show (5 : Int32) = nI 5 from rfl, pk_mul, nI_add, Nat.mul_comm]
theorem ex_cl {r c : Nat} (hr : r < 21) (hc : c < 5) : (nI r * 5 + nI c).toNatClampNeg = 5 * r + c := by
  rw [ex_ix]
  exact nI_clamp (by omega)
theorem ex_in {r c : Nat} (hr : r < 21) (hc : c < 5) : vp_in (nI r * 5 + nI c) 105 := by
  rw [ex_ix]
  exact vp_in_nI (by omega) (by omega)
theorem ex_upd {s : Nat → Int64} {x : Int64} {r c r' c' : Nat} (hc : c < 5) (hc' : c' < 5) : vp_updL s (5 * r + c) x (5 * r' + c') = if r' = r ∧ c' = c then x else s (5 * r' + c') := by
  by_cases h : r' = r ∧ c' = c
  · rw [if_pos h, h.1, h.2, pk_uLs]
  · rw [if_neg h, pk_uLn (fun e => h ⟨by omega, by omega⟩)]
abbrev ex_cnt (cc col c : Nat) : Prop := c ≠ col ∧ (c < cc ∨ c = 4)
theorem ex_cell {post : Int64 → Prop} {Fpr Fwo Frw Ftu : Int32} {Fun : Int64} {Fco Ffw Fwc : Int32} {Fwt Fwb : Int64} {Fln Fem Fhh : Int32} {Fht Fhb : Int64} {Fhl : Int32} {Flt Flb : Int64} {Fbr Fl3 Fg3 : Int32} {A1 A2 A3 A4 A5 A6 A7 A8 A9 : Nat → Int32} {A10 : Nat → Int64} {A11 A12 : Nat → Int32} {A13 A14 A15 A16 A17 : Nat → Int64} {A18 A19 : Nat → Int32} {r c : Nat} (hr : r < 21) (hc : c < 5) (H : post (A10 (5 * r + c))) : wpX_cell post (Fpr, Fwo, Frw, Ftu, Fun, Fco, Ffw, Fwc, Fwt, Fwb, Fln, Fem, Fhh, Fht, Fhb, Fhl, Flt, Flb, Fbr, Fl3, Fg3, A1, A2, A3, A4, A5, A6, A7, A8, A9, A10, A11, A12, A13, A14, A15, A16, A17, A18, A19) (nI r) (nI c) :=
  ⟨ex_in hr hc, by rw [ex_cl hr hc]; exact H⟩
theorem ex_l40 {post : St1 → Prop} {J : Int32 → (Nat → Int32) → (Nat → Int32) → (Nat → Int32) → (Nat → Int32) → (Nat → Int32) → (Nat → Int32) → (Nat → Int32) → (Nat → Int32) → (Nat → Int32) → (Nat → Int64) → (Nat → Int32) → (Nat → Int32) → (Nat → Int64) → (Nat → Int64) → (Nat → Int64) → (Nat → Int64) → (Nat → Int64) → (Nat → Int32) → (Nat → Int32) → Prop} {Fpr Fwo Frw Ftu : Int32} {Fun : Int64} {Fco Ffw Fwc : Int32} {Fwt Fwb : Int64} {Fln Fem Fhh : Int32} {Fht Fhb : Int64} {Fhl : Int32} {Flt Flb : Int64} {Fbr Fl3 Fg3 : Int32} {A1 A2 A3 A4 A5 A6 A7 A8 A9 : Nat → Int32} {A10 : Nat → Int64} {A11 A12 : Nat → Int32} {A13 A14 A15 A16 A17 : Nat → Int64} {A18 A19 : Nat → Int32} {row col r cc : Nat} {p t : Int64} {last : Int32} (hr : r < 21) (hrow : row < 21) (hcol : col < 5) (hc : Fco = nI cc) (hcc : cc ≤ 4) (hu : ¬ Fun = 0)
    (H0 : r = row → wX_exchange_146 post J (nI row) (nI col) p last (nI r) t Fpr Fwo Frw Ftu Fun Fco Ffw Fwc Fwt Fwb Fln Fem Fhh Fht Fhb Fhl Flt Flb Fbr Fl3 Fg3 A1 A2 A3 A4 A5 A6 A7 A8 A9 A10 A11 A12 A13 A14 A15 A16 A17 A18 A19)
    (H : r ≠ row → ∀ s : Nat → Int64, (∀ r' c', c' < 5 → s (5 * r' + c') = if r' = r ∧ ex_cnt cc col c' then (A10 (5 * r + c') * p - t * A10 (5 * row + c')) / Fun else A10 (5 * r' + c')) → wX_exchange_146 post J (nI row) (nI col) p last (nI r) t Fpr Fwo Frw Ftu Fun Fco Ffw Fwc Fwt Fwb Fln Fem Fhh Fht Fhb Fhl Flt Flb Fbr Fl3 Fg3 A1 A2 A3 A4 A5 A6 A7 A8 A9 s A11 A12 A13 A14 A15 A16 A17 A18 A19) :
    ∃ n, wX_exchange_40 post J (nI row) (nI col) p last (nI r) t Fpr Fwo Frw Ftu Fun Fco Ffw Fwc Fwt Fwb Fln Fem Fhh Fht Fhb Fhl Flt Flb Fbr Fl3 Fg3 n 0 A1 A2 A3 A4 A5 A6 A7 A8 A9 A10 A11 A12 A13 A14 A15 A16 A17 A18 A19 := by
  subst hc
  by_cases e : r = row
  · exact ⟨1, pk_le 5 0 (fun z => absurd z (by omega)) (fun _ => pk_eq r row (fun _ => H0 e) (fun z => absurd e z))⟩
  · refine pk_loop (fun n c s => wX_exchange_40 post J (nI row) (nI col) p last (nI r) t Fpr Fwo Frw Ftu Fun (nI cc) Ffw Fwc Fwt Fwb Fln Fem Fhh Fht Fhb Fhl Flt Flb Fbr Fl3 Fg3 n (nI c) A1 A2 A3 A4 A5 A6 A7 A8 A9 s A11 A12 A13 A14 A15 A16 A17 A18 A19) (fun c s => ∀ r' c', c' < 5 → s (5 * r' + c') = if r' = r ∧ c' < c ∧ ex_cnt cc col c' then (A10 (5 * r + c') * p - t * A10 (5 * row + c')) / Fun else A10 (5 * r' + c')) 5 0 A10 (by omega) ?_ ?_ ?_
    · intro r' c' hc'
      rw [if_neg (by omega)]
    · intro n s h
      refine pk_le 5 5 (fun _ => H e s (fun r' c' hc' => ?_)) (fun z => absurd z (by omega))
      rw [h r' c' hc']
      by_cases g : r' = r ∧ ex_cnt cc col c'
      · rw [if_pos g, if_pos ⟨g.1, hc', g.2⟩]
      · rw [if_neg g, if_neg (fun z => g ⟨z.1, z.2.2⟩)]
    · intro n c s hc5 h hw
      have pas : ¬ ex_cnt cc col c → wX_exchange_40 post J (nI row) (nI col) p last (nI r) t Fpr Fwo Frw Ftu Fun (nI cc) Ffw Fwc Fwt Fwb Fln Fem Fhh Fht Fhb Fhl Flt Flb Fbr Fl3 Fg3 n (nI (c + 1)) A1 A2 A3 A4 A5 A6 A7 A8 A9 s A11 A12 A13 A14 A15 A16 A17 A18 A19 := by
        intro nc
        refine hw s (fun r' c' hc' => ?_)
        rw [h r' c' hc']
        by_cases g : r' = r ∧ c' < c ∧ ex_cnt cc col c'
        · rw [if_pos g, if_pos ⟨g.1, by omega, g.2.2⟩]
        · rw [if_neg g, if_neg (fun z => g ⟨z.1, by
            rcases Nat.lt_or_ge c' c with y | y
            · exact y
            · have : c' = c := by omega
              rw [this] at z
              exact absurd z.2.2 nc, z.2.2⟩)]
      have put : ex_cnt cc col c → wX_exchange_40 post J (nI row) (nI col) p last (nI r) t Fpr Fwo Frw Ftu Fun (nI cc) Ffw Fwc Fwt Fwb Fln Fem Fhh Fht Fhb Fhl Flt Flb Fbr Fl3 Fg3 n (nI (c + 1)) A1 A2 A3 A4 A5 A6 A7 A8 A9 (vp_updL s (5 * r + c) ((s (5 * r + c) * p - t * s (5 * row + c)) / Fun)) A11 A12 A13 A14 A15 A16 A17 A18 A19 := by
        intro yc
        refine hw _ (fun r' c' hc' => ?_)
        rw [ex_upd hc5 hc', h r c hc5, h row c hc5, if_neg (show ¬ (r = r ∧ c < c ∧ ex_cnt cc col c) by omega), if_neg (show ¬ (row = r ∧ c < c ∧ ex_cnt cc col c) by omega)]
        by_cases g : r' = r ∧ c' = c
        · rw [if_pos g, if_pos ⟨g.1, by omega, by rw [g.2]; exact yc⟩, g.2]
        · rw [if_neg g, h r' c' hc']
          by_cases g2 : r' = r ∧ c' < c ∧ ex_cnt cc col c'
          · rw [if_pos g2, if_pos ⟨g2.1, by omega, g2.2.2⟩]
          · rw [if_neg g2, if_neg (fun z => g2 ⟨z.1, by omega, z.2.2⟩)]
      have no : ¬ ex_cnt cc col c → wX_exchange_77 post J (wX_exchange_40 post J (nI row) (nI col) p last (nI r) t Fpr Fwo Frw Ftu Fun (nI cc) Ffw Fwc Fwt Fwb Fln Fem Fhh Fht Fhb Fhl Flt Flb Fbr Fl3 Fg3 n) (nI row) (nI col) p last (nI r) t (nI c) Fpr Fwo Frw Ftu Fun (nI cc) Ffw Fwc Fwt Fwb Fln Fem Fhh Fht Fhb Fhl Flt Flb Fbr Fl3 Fg3 A1 A2 A3 A4 A5 A6 A7 A8 A9 s A11 A12 A13 A14 A15 A16 A17 A18 A19 :=
        fun nc => br_t rfl (nm_r (nI_1 c) (pas nc))
      have yes : ex_cnt cc col c → wX_exchange_73 post J (wX_exchange_40 post J (nI row) (nI col) p last (nI r) t Fpr Fwo Frw Ftu Fun (nI cc) Ffw Fwc Fwt Fwb Fln Fem Fhh Fht Fhb Fhl Flt Flb Fbr Fl3 Fg3 n) (nI row) (nI col) p last (nI r) t (nI c) Fpr Fwo Frw Ftu Fun (nI cc) Ffw Fwc Fwt Fwb Fln Fem Fhh Fht Fhb Fhl Flt Flb Fbr Fl3 Fg3 A1 A2 A3 A4 A5 A6 A7 A8 A9 s A11 A12 A13 A14 A15 A16 A17 A18 A19 :=
        fun yc => br_f (by decide) (ex_cell hr hc5 (ex_cell hrow hc5 (nm_e (br_f hu ⟨hu, ex_in hr hc5, nm_r (by rw [ex_cl hr hc5]) (nm_r (nI_1 c) (put yc))⟩))))
      refine pk_le 5 c (fun z => absurd z (by omega)) (fun _ => pk_eq r row (fun z => absurd z e) (fun _ => pk_eq c col (fun z => no (fun q => q.1 z)) (fun z => pk_lt c cc (fun y => yes ⟨z, Or.inl y⟩) (fun y => pk_eq c 4 (fun x => yes ⟨z, Or.inr x⟩) (fun x => no (fun q => by omega))))))
def ex_E (a : Nat → Int64) (un p : Int64) (row col cc r c : Nat) : Int64 :=
  if r = row then a (5 * r + c) else if c = col then -a (5 * r + col) else if ex_cnt cc col c then (a (5 * r + c) * p - a (5 * r + col) * a (5 * row + c)) / un else a (5 * r + c)
theorem ex_turn {post : St1 → Prop} {Fpr Fwo Frw Ftu : Int32} {Fun : Int64} {Fco Ffw Fwc : Int32} {Fwt Fwb : Int64} {Fln Fem Fhh : Int32} {Fht Fhb : Int64} {Fhl : Int32} {Flt Flb : Int64} {Fbr Fl3 Fg3 : Int32} {A1 A2 A3 A4 A5 A6 A7 A8 A9 : Nat → Int32} {A10 : Nat → Int64} {A11 A12 : Nat → Int32} {A13 A14 A15 A16 A17 : Nat → Int64} {A18 A19 : Nat → Int32} {last : Nat} (hl : last ≤ 21) (H : ∀ s : Nat → Int64, (∀ r c, c < 5 → s (5 * r + c) = if r < last then -A10 (5 * r + c) else A10 (5 * r + c)) → post (Fpr, Fwo, Frw, Ftu, (-Fun), Fco, Ffw, Fwc, Fwt, Fwb, Fln, Fem, Fhh, Fht, Fhb, Fhl, Flt, Flb, Fbr, Fl3, Fg3, A1, A2, A3, A4, A5, A6, A7, A8, A9, s, A11, A12, A13, A14, A15, A16, A17, A18, A19)) : wpX_turnSigns post (Fpr, Fwo, Frw, Ftu, Fun, Fco, Ffw, Fwc, Fwt, Fwb, Fln, Fem, Fhh, Fht, Fhb, Fhl, Flt, Flb, Fbr, Fl3, Fg3, A1, A2, A3, A4, A5, A6, A7, A8, A9, A10, A11, A12, A13, A14, A15, A16, A17, A18, A19) (nI last) := by
  have e5 : nI last * 5 = nI (last * 5) := by rw [show (5 : Int32) = nI 5 from rfl, pk_mul]
  refine nm_e (pk_loop (fun n c s => wX_turnSigns_11 post (nI last) Fpr Fwo Frw Ftu (-Fun) Fco Ffw Fwc Fwt Fwb Fln Fem Fhh Fht Fhb Fhl Flt Flb Fbr Fl3 Fg3 n (nI c) A1 A2 A3 A4 A5 A6 A7 A8 A9 s A11 A12 A13 A14 A15 A16 A17 A18 A19) (fun i s => ∀ j, s j = if j < i then -A10 j else A10 j) (last * 5) 0 A10 (by omega) ?_ ?_ ?_)
  · intro j
    rw [if_neg (by omega)]
  · intro n s h
    refine pk_le (last * 5) (last * 5) (fun _ => H s (fun r c hc => ?_)) (fun z => absurd z (by omega)) e5
    rw [h]
    by_cases g : r < last
    · rw [if_pos g, if_pos (by omega)]
    · rw [if_neg g, if_neg (by omega)]
  · intro n i s hi h hw
    refine pk_le (last * 5) i (fun z => absurd z (by omega)) (fun _ => ⟨pk_in i 105 (by omega), pk_in i 105 (by omega), nm_r (by rw [nI_clamp (show i < 2 ^ 31 by omega)]) (nm_r (nI_1 i) (hw (vp_updL s i (-s i)) (fun j => ?_)))⟩) e5
    by_cases g : j = i
    · rw [g, pk_uLs, h i, if_neg (by omega), if_pos (by omega)]
    · rw [pk_uLn g, h j]
      by_cases g2 : j < i
      · rw [if_pos g2, if_pos (by omega)]
      · rw [if_neg g2, if_neg (by omega)]
theorem ex_ok {post : St1 → Prop} {Fpr Fwo Frw Ftu : Int32} {Fun : Int64} {Fco Ffw Fwc : Int32} {Fwt Fwb : Int64} {Fln Fem Fhh : Int32} {Fht Fhb : Int64} {Fhl : Int32} {Flt Flb : Int64} {Fbr Fl3 Fg3 : Int32} {A1 A2 A3 A4 A5 A6 A7 A8 A9 : Nat → Int32} {A10 : Nat → Int64} {A11 A12 : Nat → Int32} {A13 A14 A15 A16 A17 : Nat → Int64} {A18 A19 : Nat → Int32} {row col cc last : Nat} (hrow : row < 16) (hcol : col < 4) (hc : Fco = nI cc) (hcc : cc ≤ 4) (hl : Ffw + Fwc = nI last) (hlast : last ≤ 21) (hrl : row < last) (hu : ¬ Fun = 0)
    (H : ∀ s : Nat → Int64, (∀ r c, c < 5 → s (5 * r + c) = if r = row ∧ c = col then Fun else if r < last then ex_E A10 Fun (A10 (5 * row + col)) row col cc r c else A10 (5 * r + c)) →
      (0 ≤ A10 (5 * row + col) → post (Fpr, Fwo, Frw, Ftu, (A10 (5 * row + col)), Fco, Ffw, Fwc, Fwt, Fwb, Fln, Fem, Fhh, Fht, Fhb, Fhl, Flt, Flb, Fbr, Fl3, Fg3, A1, A2, A3, A4, A5, A6, A7, A8, A9, s, (upd A11 row (vp_nar .byte (A12 col))), (upd A12 col (vp_nar .byte (A11 row))), A13, A14, A15, A16, A17, A18, A19)) ∧
      (¬ 0 ≤ A10 (5 * row + col) → ∀ s' : Nat → Int64, (∀ r c, c < 5 → s' (5 * r + c) = if r < last then -s (5 * r + c) else s (5 * r + c)) → post (Fpr, Fwo, Frw, Ftu, (-A10 (5 * row + col)), Fco, Ffw, Fwc, Fwt, Fwb, Fln, Fem, Fhh, Fht, Fhb, Fhl, Flt, Flb, Fbr, Fl3, Fg3, A1, A2, A3, A4, A5, A6, A7, A8, A9, s', (upd A11 row (vp_nar .byte (A12 col))), (upd A12 col (vp_nar .byte (A11 row))), A13, A14, A15, A16, A17, A18, A19))) :
    wpX_exchange post (Fpr, Fwo, Frw, Ftu, Fun, Fco, Ffw, Fwc, Fwt, Fwb, Fln, Fem, Fhh, Fht, Fhb, Fhl, Flt, Flb, Fbr, Fl3, Fg3, A1, A2, A3, A4, A5, A6, A7, A8, A9, A10, A11, A12, A13, A14, A15, A16, A17, A18, A19) (nI row) (nI col) := by
  unfold wpX_exchange
  refine ex_cell (r := row) (c := col) (by omega) (by omega) (nm_r hl ?_)
  generalize hp : A10 (5 * row + col) = p at *
  refine pk_loop (fun n r s => wX_exchange_21 post (nI row) (nI col) p (nI last) Fpr Fwo Frw Ftu Fun Fco Ffw Fwc Fwt Fwb Fln Fem Fhh Fht Fhb Fhl Flt Flb Fbr Fl3 Fg3 n (nI r) A1 A2 A3 A4 A5 A6 A7 A8 A9 s A11 A12 A13 A14 A15 A16 A17 A18 A19) (fun i s => ∀ r c, c < 5 → s (5 * r + c) = if r < i then ex_E A10 Fun p row col cc r c else A10 (5 * r + c)) last 0 A10 (by omega) ?_ ?_ ?_
  · intro r c _
    rw [if_neg (by omega)]
  · intro n s h
    have F : ∀ r c, c < 5 → vp_updL s (5 * row + col) Fun (5 * r + c) = if r = row ∧ c = col then Fun else if r < last then ex_E A10 Fun p row col cc r c else A10 (5 * r + c) := by
      intro r c h5
      rw [ex_upd (show col < 5 by omega) h5, h r c h5]
    obtain ⟨H1, H2⟩ := H _ F
    refine pk_le last last (fun _ => ⟨ex_in (by omega) (by omega), nm_r (by rw [ex_cl (by omega) (by omega)]) ⟨pk_in row 16 hrow, nm_e ⟨pk_in col 4 hcol, ⟨pk_in row 16 hrow, nm_r (by rw [nI_clamp (show row < 2 ^ 31 by omega), nI_clamp (show col < 2 ^ 31 by omega)]) ⟨pk_in col 4 hcol, nm_r (by rw [nI_clamp (show row < 2 ^ 31 by omega), nI_clamp (show col < 2 ^ 31 by omega)]) ?_⟩⟩⟩⟩⟩) (fun z => absurd z (by omega))
    exact br_c H1 (fun g => ex_turn hlast (fun s' hs' => H2 g s' hs'))
  · intro n r s hr h hw
    refine pk_le last r (fun z => absurd z (by omega)) (fun _ => ex_cell (show r < 21 by omega) (show col < 5 by omega) ?_)
    refine ex_l40 (show r < 21 by omega) (show row < 21 by omega) (show col < 5 by omega) hc hcc hu (fun er => ?_) (fun ner s' hs' => ?_)
    · refine pk_eq r row (fun _ => nm_r (nI_1 r) (hw s (fun r' c' hc' => ?_))) (fun z => absurd er z)
      rw [h r' c' hc']
      by_cases g : r' < r
      · rw [if_pos g, if_pos (by omega)]
      · rw [if_neg g]
        by_cases g2 : r' = r
        · rw [if_pos (by omega), ex_E, if_pos (by omega)]
        · rw [if_neg (by omega)]
    · refine pk_eq r row (fun z => absurd z ner) (fun _ => ⟨ex_in (by omega) (by omega), nm_r (by rw [ex_cl (show r < 21 by omega) (show col < 5 by omega)]) (nm_r (nI_1 r) (hw (vp_updL s' (5 * r + col) (-s (5 * r + col))) (fun r' c' hc' => ?_)))⟩)
      rw [ex_upd (show col < 5 by omega) hc', h r col (by omega), if_neg (show ¬ r < r by omega)]
      by_cases g : r' = r ∧ c' = col
      · rw [if_pos g, if_pos (by omega), ex_E, if_neg (by omega), if_pos g.2, g.1]
      · rw [if_neg g, hs' r' c' hc']
        have hrow' : s (5 * row + c') = A10 (5 * row + c') ∨ row < r := by
          rcases Nat.lt_or_ge row r with y | y
          · exact Or.inr y
          · exact Or.inl (by rw [h row c' hc', if_neg (by omega)])
        have er : s (5 * row + c') = A10 (5 * row + c') := by
          rw [h row c' hc', ex_E, if_pos rfl]
          split <;> rfl
        by_cases g2 : r' = r
        · have nc : c' ≠ col := fun z => g ⟨g2, z⟩
          have e3 : s (5 * r + c') = A10 (5 * r + c') := by rw [h r c' hc', if_neg (by omega)]
          have e4 : s (5 * r + col) = A10 (5 * r + col) := by rw [h r col (by omega), if_neg (by omega)]
          rw [g2, if_pos (show r < r + 1 by omega), ex_E, if_neg ner, if_neg nc, er, e3]
          by_cases g3 : ex_cnt cc col c'
          · rw [if_pos ⟨rfl, g3⟩, if_pos g3, e4]
          · rw [if_neg (fun z => g3 z.2), if_neg g3]
        · rw [if_neg (fun z => g2 z.1), h r' c' hc']
          by_cases g4 : r' < r
          · rw [if_pos g4, if_pos (by omega)]
          · rw [if_neg g4, if_neg (by omega)]
end
section
def tx_F (f : Nat → Int) : Prop := (∀ i, i < 4 → (f i).natAbs ≤ 7) ∧ (f 4).natAbs ≤ 600
/-- the table in the array: row r holds the form rf r over the columns L -/
def tx_ok (A : Nat → Int64) (L rf : Nat → Nat → Int) (last : Nat) : Prop :=
  ∀ r, r < last → (∀ j, j < 4 → A (5 * r + j) = am_L (tb_T L (rf r) j)) ∧ A (5 * r + 4) = am_L (tb_R L (rf r))
theorem tx_Tb {L : Nat → Nat → Int} {f : Nat → Int} (hL : ∀ j, j < 4 → tx_F (L j)) (hf : tx_F f) (k : Nat) : (tb_T L f k).natAbs ≤ 57624 := tb_Tb (fun j hj => (hL j hj).1) hf.1 k
theorem tx_ub {L : Nat → Nat → Int} (hL : ∀ j, j < 4 → tx_F (L j)) : (tb_u L).natAbs ≤ 57624 := tb_ub (fun j hj => (hL j hj).1)
theorem tx_Rb {L : Nat → Nat → Int} {f : Nat → Int} (hL : ∀ j, j < 4 → tx_F (L j)) (hf : tx_F f) : (tb_R L f).natAbs ≤ 172872000 := tb_Rb (fun j hj => (hL j hj).1) (fun j hj => (hL j hj).2) hf.1 hf.2
theorem tx_s2 {p x : Int} : tb_s p * (tb_s p * x) = x := by
  rcases tb_sc p with e | e <;> rw [e] <;> omega
theorem tx_div {u X S N : Int} (hu : u ≠ 0) (ub : u.natAbs ≤ 57624) (Xb : X.natAbs ≤ 100000000000000) (hS : S * S = 1) (h : u * N = S * X) : am_L X / am_L u = am_L (S * N) := by
  rw [am_Ldiv (am_Rabs Xb (by omega)) (am_Rabs ub (by omega))]
  have e : X = u * (S * N) := by
    have : S * (u * N) = S * (S * X) := by rw [h]
    have e2 : S * (S * X) = (S * S) * X := by grind
    rw [e2, hS, Int.one_mul] at this
    rw [← this]
    grind
  rw [e, am_tdiv hu]
theorem tx_val {A s : Nat → Int64} {L rf : Nat → Nat → Int} {last row col cc : Nat} (h : tx_ok A L rf last) (hF : ∀ r, r < last → tx_F (rf r)) (hL : ∀ j, j < 4 → tx_F (L j)) (hD : la_D L ≠ 0) (hrow : row < last) (hcol : col < 4) (hp : tb_T L (rf row) col ≠ 0)
    (hcc : cc = 4 ∨ (cc = 3 ∧ col < 3 ∧ ∀ r, r < last → tb_T L (rf r) 3 = 0))
    (hs : ∀ r c, c < 5 → s (5 * r + c) = if r = row ∧ c = col then am_L (tb_u L) else if r < last then ex_E A (am_L (tb_u L)) (A (5 * row + col)) row col cc r c else A (5 * r + c)) :
    ∀ r, r < last → (∀ j, j < 4 → s (5 * r + j) = am_L (tb_s (tb_T L (rf row) col) * tb_T (la_set L col (rf row)) (if r = row then L col else rf r) j)) ∧ s (5 * r + 4) = am_L (tb_s (tb_T L (rf row) col) * tb_R (la_set L col (rf row)) (if r = row then L col else rf r)) := by
  intro r hr
  have un := tb_une hD
  have ub := tx_ub hL
  have s2 : tb_s (tb_T L (rf row) col) * tb_s (tb_T L (rf row) col) = 1 := tb_s2 _
  have hpc : A (5 * row + col) = am_L (tb_T L (rf row) col) := (h row hrow).1 col hcol
  have pb := tx_Tb hL (hF row hrow) col
  constructor
  · intro j hj
    rw [hs r j (by omega), if_pos hr]
    by_cases er : r = row
    · rw [er, if_pos rfl]
      by_cases ej : j = col
      · rw [if_pos ⟨rfl, ej⟩, ej, tb_pTk _ hcol hp, tb_own1 L hcol]
        congr 1
        have := tx_s2 (p := tb_T L (rf row) col) (x := tb_u L)
        grind
      · rw [if_neg (fun z => ej z.2), ex_E, if_pos rfl, (h row hrow).1 j hj]
        congr 1
        have q := tb_pTj (L col) hcol hj ej hp
        rw [tb_own0 L hcol hj (fun z => ej z.symm), tb_own1 L hcol] at q
        have q2 : tb_u L * (tb_T (la_set L col (rf row)) (L col) j - tb_s (tb_T L (rf row) col) * tb_T L (rf row) j) = 0 := by grind
        rcases Int.mul_eq_zero.mp q2 with y | y
        · exact absurd y un
        · have y2 : tb_T (la_set L col (rf row)) (L col) j = tb_s (tb_T L (rf row) col) * tb_T L (rf row) j := by omega
          rw [y2, tx_s2]
    · rw [if_neg (fun z => er z.1), if_neg er, ex_E, if_neg er]
      by_cases ej : j = col
      · rw [if_pos ej, ej, (h r hr).1 col hcol, am_Lneg, tb_pTk _ hcol hp]
        congr 1
        have := tx_s2 (p := tb_T L (rf row) col) (x := tb_T L (rf r) col)
        grind
      · rw [if_neg ej]
        have q := tb_pTj (rf r) hcol hj ej hp
        by_cases ec : ex_cnt cc col j
        · rw [if_pos ec, hpc, (h r hr).1 j hj, (h r hr).1 col hcol, (h row hrow).1 j hj, am_Lmul, am_Lmul, am_Lsub]
          have b1 := am_abs (tx_Tb hL (hF r hr) j) pb
          have b2 := am_abs (tx_Tb hL (hF r hr) col) (tx_Tb hL (hF row hrow) j)
          exact tx_div un ub (by omega) s2 q
        · rw [if_neg ec, (h r hr).1 j hj]
          rcases hcc with hc4 | ⟨hc3, _, hz⟩
          · exact absurd (show ex_cnt cc col j from ⟨ej, Or.inl (by omega)⟩) ec
          · have j3 : j = 3 := by
              rcases Nat.lt_or_ge j 3 with y | y
              · exact absurd (show ex_cnt cc col j from ⟨ej, Or.inl (by omega)⟩) ec
              · omega
            rw [j3] at q ⊢
            rw [hz r hr, hz row hrow] at q
            have q2 : tb_u L * tb_T (la_set L col (rf row)) (rf r) 3 = 0 := by grind
            rcases Int.mul_eq_zero.mp q2 with y | y
            · exact absurd y un
            · rw [y, hz r hr, Int.mul_zero]
  · rw [hs r 4 (by omega), if_pos hr, if_neg (show ¬ (r = row ∧ 4 = col) by omega), ex_E]
    by_cases er : r = row
    · rw [er, if_pos rfl, if_pos rfl, (h row hrow).2]
      congr 1
      have q := tb_pR (L col) hcol hp
      rw [tb_ownR L hcol, tb_own1 L hcol] at q
      have q2 : tb_u L * (tb_R (la_set L col (rf row)) (L col) - tb_s (tb_T L (rf row) col) * tb_R L (rf row)) = 0 := by grind
      rcases Int.mul_eq_zero.mp q2 with y | y
      · exact absurd y un
      · have y2 : tb_R (la_set L col (rf row)) (L col) = tb_s (tb_T L (rf row) col) * tb_R L (rf row) := by omega
        rw [y2, tx_s2]
    · rw [if_neg er, if_neg er, if_neg (show ¬ 4 = col by omega), if_pos ⟨by omega, Or.inr rfl⟩, hpc, (h r hr).2, (h r hr).1 col hcol, (h row hrow).2, am_Lmul, am_Lmul, am_Lsub]
      have b1 := am_abs (tx_Rb hL (hF r hr)) pb
      have b2 := am_abs (tx_Tb hL (hF r hr) col) (tx_Rb hL (hF row hrow))
      exact tx_div un ub (by omega) s2 (tb_pR (rf r) hcol hp)
theorem tx_exchange {post : St1 → Prop} {Fpr Fwo Frw Ftu : Int32} {Fun : Int64} {Fco Ffw Fwc : Int32} {Fwt Fwb : Int64} {Fln Fem Fhh : Int32} {Fht Fhb : Int64} {Fhl : Int32} {Flt Flb : Int64} {Fbr Fl3 Fg3 : Int32} {A1 A2 A3 A4 A5 A6 A7 A8 A9 : Nat → Int32} {A10 : Nat → Int64} {A11 A12 : Nat → Int32} {A13 A14 A15 A16 A17 : Nat → Int64} {A18 A19 : Nat → Int32} {L rf : Nat → Nat → Int} {row col cc last a b : Nat} (h : tx_ok A10 L rf last) (hF : ∀ r, r < last → tx_F (rf r)) (hL : ∀ j, j < 4 → tx_F (L j)) (hD : la_D L ≠ 0) (hu : Fun = am_L (tb_u L))
    (hrow : row < 16) (hcol : col < 4) (hc : Fco = nI cc) (hl : Ffw + Fwc = nI last) (hlast : last ≤ 21) (hrl : row < last)
    (hcc : cc = 4 ∨ (cc = 3 ∧ col < 3 ∧ ∀ r, r < last → tb_T L (rf r) 3 = 0)) (hp : tb_T L (rf row) col ≠ 0)
    (ha : A12 col = nI a) (hb : A11 row = nI b) (ha' : a < 100) (hb' : b < 100)
    (H : ∀ s : Nat → Int64, tx_ok s (la_set L col (rf row)) (fun r => if r = row then L col else rf r) last → post (Fpr, Fwo, Frw, Ftu, (am_L (tb_u (la_set L col (rf row)))), Fco, Ffw, Fwc, Fwt, Fwb, Fln, Fem, Fhh, Fht, Fhb, Fhl, Flt, Flb, Fbr, Fl3, Fg3, A1, A2, A3, A4, A5, A6, A7, A8, A9, s, (upd A11 row (nI a)), (upd A12 col (nI b)), A13, A14, A15, A16, A17, A18, A19)) :
    wpX_exchange post (Fpr, Fwo, Frw, Ftu, Fun, Fco, Ffw, Fwc, Fwt, Fwb, Fln, Fem, Fhh, Fht, Fhb, Fhl, Flt, Flb, Fbr, Fl3, Fg3, A1, A2, A3, A4, A5, A6, A7, A8, A9, A10, A11, A12, A13, A14, A15, A16, A17, A18, A19) (nI row) (nI col) := by
  have un := tb_une hD
  have ub := tx_ub hL
  have pb := tx_Tb hL (hF row hrl) col
  have hpc : A10 (5 * row + col) = am_L (tb_T L (rf row) col) := (h row hrl).1 col hcol
  have nar : ∀ n : Nat, n < 100 → vp_nar .byte (nI n) = nI n := by
    intro n hn
    rw [am_nI, am_I8n (by omega) (by omega)]
  subst hu
  refine ex_ok hrow hcol hc (by omega) hl hlast hrl (fun z => un ((am_Leq (am_Rabs ub (by omega)) (b := 0) ⟨by omega, by omega⟩).mp z)) (fun s hs => ?_)
  have V := tx_val h hF hL hD hrl hcol hp hcc hs
  rw [ha, hb, nar a ha', nar b hb', hpc]
  have pz : (0 ≤ am_L (tb_T L (rf row) col)) ↔ 0 ≤ tb_T L (rf row) col := am_Lle (a := 0) ⟨by omega, by omega⟩ (am_Rabs pb (by omega))
  constructor
  · intro g
    have p0 : 0 < tb_T L (rf row) col := by
      have := pz.mp g
      omega
    have S := tb_sp p0
    have eu : tb_T L (rf row) col = tb_u (la_set L col (rf row)) := by
      rw [tb_pu hcol hp, S, Int.one_mul]
    have := H s (fun r hr => by
      obtain ⟨v1, v2⟩ := V r hr
      refine ⟨fun j hj => ?_, ?_⟩
      · rw [v1 j hj, S, Int.one_mul]
      · rw [v2, S, Int.one_mul])
    rw [← eu] at this
    exact this
  · intro g s' hs'
    have p0 : tb_T L (rf row) col < 0 := by
      rcases am_lg (tb_T L (rf row) col) 0 with y | y
      · exact y
      · exact absurd (pz.mpr y) g
    have S := tb_sn p0
    have eu : -(tb_T L (rf row) col) = tb_u (la_set L col (rf row)) := by
      rw [tb_pu hcol hp, S]
      omega
    have := H s' (fun r hr => by
      obtain ⟨v1, v2⟩ := V r hr
      refine ⟨fun j hj => ?_, ?_⟩
      · rw [hs' r j (by omega), if_pos hr, v1 j hj, S, am_Lneg]
        congr 1
        dsimp only
        omega
      · rw [hs' r 4 (by omega), if_pos hr, v2, S, am_Lneg]
        congr 1
        dsimp only
        omega)
    rw [← eu, ← am_Lneg] at this
    exact this
end
section
theorem am_z0 {a : Int} (h : am_R a) : am_L a = 0 ↔ a = 0 := am_Leq h (b := 0) ⟨by omega, by omega⟩
theorem am_zl {a : Int} (h : am_R a) : am_L a ≤ 0 ↔ a ≤ 0 := am_Lle h (b := 0) ⟨by omega, by omega⟩
theorem am_zg {a : Int} (h : am_R a) : 0 ≤ am_L a ↔ 0 ≤ a := am_Lle (a := 0) ⟨by omega, by omega⟩ h
theorem am_zlt {a : Int} (h : am_R a) : am_L a < 0 ↔ a < 0 := am_Llt h (b := 0) ⟨by omega, by omega⟩
theorem ex_cellx {post : Int64 → Prop} {Fpr Fwo Frw Ftu : Int32} {Fun : Int64} {Fco Ffw Fwc : Int32} {Fwt Fwb : Int64} {Fln Fem Fhh : Int32} {Fht Fhb : Int64} {Fhl : Int32} {Flt Flb : Int64} {Fbr Fl3 Fg3 : Int32} {A1 A2 A3 A4 A5 A6 A7 A8 A9 : Nat → Int32} {A10 : Nat → Int64} {A11 A12 : Nat → Int32} {A13 A14 A15 A16 A17 : Nat → Int64} {A18 A19 : Nat → Int32} {r c : Nat} {x y : Int32} (hx : x = nI r) (hy : y = nI c) (hr : r < 21) (hc : c < 5) (H : post (A10 (5 * r + c))) : wpX_cell post (Fpr, Fwo, Frw, Ftu, Fun, Fco, Ffw, Fwc, Fwt, Fwb, Fln, Fem, Fhh, Fht, Fhb, Fhl, Flt, Flb, Fbr, Fl3, Fg3, A1, A2, A3, A4, A5, A6, A7, A8, A9, A10, A11, A12, A13, A14, A15, A16, A17, A18, A19) x y := by
  subst hx hy
  exact ex_cell hr hc H
/-- the first of n numbers that isn't 0 is negative -/
def hx_N (n : Nat) (v : Nat → Int) : Prop := ∃ w, w < n ∧ v w < 0 ∧ ∀ k, k < w → v k = 0
theorem wk_helps {post : Int32 → Prop} {Fpr Fwo Frw Ftu : Int32} {Fun : Int64} {Fco Ffw Fwc : Int32} {Fwt Fwb : Int64} {Fln Fem Fhh : Int32} {Fht Fhb : Int64} {Fhl : Int32} {Flt Flb : Int64} {Fbr Fl3 Fg3 : Int32} {A1 A2 A3 A4 A5 A6 A7 A8 A9 : Nat → Int32} {A10 : Nat → Int64} {A11 A12 : Nat → Int32} {A13 A14 A15 A16 A17 : Nat → Int64} {A18 A19 : Nat → Int32} {fw wc c : Nat} {v : Nat → Int} (hfw : Ffw = nI fw) (hwc : Fwc = nI wc) (hb : fw + wc ≤ 21) (hc : c < 5) (hv : ∀ w, w < wc → A10 (5 * (fw + w) + c) = am_L (v w) ∧ (v w).natAbs ≤ 57624) (H0 : ¬ hx_N wc v → post 0) (H1 : hx_N wc v → post 1) : wpX_helps post (Fpr, Fwo, Frw, Ftu, Fun, Fco, Ffw, Fwc, Fwt, Fwb, Fln, Fem, Fhh, Fht, Fhb, Fhl, Flt, Flb, Fbr, Fl3, Fg3, A1, A2, A3, A4, A5, A6, A7, A8, A9, A10, A11, A12, A13, A14, A15, A16, A17, A18, A19) (nI c) := by
  subst hfw hwc
  refine pk_loop (σ := Unit) (fun n w _ => wX_helps_2 post (nI c) Fpr Fwo Frw Ftu Fun Fco (nI fw) (nI wc) Fwt Fwb Fln Fem Fhh Fht Fhb Fhl Flt Flb Fbr Fl3 Fg3 A1 A2 A3 A4 A5 A6 A7 A8 A9 A10 A11 A12 A13 A14 A15 A16 A17 A18 A19 n (nI w)) (fun w _ => ∀ k, k < w → v k = 0) wc 0 () (by omega) (fun k hk => absurd hk (by omega)) ?_ ?_
  · intro n _ h
    refine pk_le wc wc (fun _ => H0 ?_) (fun z => absurd z (by omega))
    intro ⟨w, hw, h1, _⟩
    have := h w hw
    omega
  · intro n w _ hw h hk
    refine pk_le wc w (fun z => absurd z (by omega)) (fun _ => ex_cellx (nI_add fw w) rfl (by omega) hc ?_)
    obtain ⟨e, b⟩ := hv w hw
    rw [e]
    refine ek_if (am_z0 (am_Rabs b (by omega))) (fun z => nm_r (nI_1 w) (hk () (lt_s h z))) (fun z => ?_)
    refine ek_if (am_zg (am_Rabs b (by omega))) (fun y => H0 ?_) (fun y => H1 ⟨w, hw, by omega, h⟩)
    intro ⟨w', _, h1, h2⟩
    rcases Nat.lt_trichotomy w' w with q | q | q
    · have := h w' q
      omega
    · rw [q] at h1
      omega
    · exact z (h2 w q)
theorem wk_entering {post : Int32 → Prop} {Fpr Fwo Frw Ftu : Int32} {Fun : Int64} {Fco Ffw Fwc : Int32} {Fwt Fwb : Int64} {Fln Fem Fhh : Int32} {Fht Fhb : Int64} {Fhl : Int32} {Flt Flb : Int64} {Fbr Fl3 Fg3 : Int32} {A1 A2 A3 A4 A5 A6 A7 A8 A9 : Nat → Int32} {A10 : Nat → Int64} {A11 A12 : Nat → Int32} {A13 A14 A15 A16 A17 : Nat → Int64} {A18 A19 : Nat → Int32} {fw wc cc : Nat} {v : Nat → Nat → Int} {cn : Nat → Nat} (hfw : Ffw = nI fw) (hwc : Fwc = nI wc) (hco : Fco = nI cc) (hb : fw + wc ≤ 21) (hcc : cc ≤ 4) (hv : ∀ c w, c < cc → w < wc → A10 (5 * (fw + w) + c) = am_L (v c w) ∧ (v c w).natAbs ≤ 57624) (hn : ∀ c, c < cc → A12 c = nI (cn c) ∧ cn c < 100)
    (H0 : (∀ c, c < cc → ¬ hx_N wc (v c)) → post (-1)) (H1 : ∀ e, e < cc → hx_N wc (v e) → (∀ c, c < cc → hx_N wc (v c) → cn e ≤ cn c) → post (nI e)) : wpX_entering post (Fpr, Fwo, Frw, Ftu, Fun, Fco, Ffw, Fwc, Fwt, Fwb, Fln, Fem, Fhh, Fht, Fhb, Fhl, Flt, Flb, Fbr, Fl3, Fg3, A1, A2, A3, A4, A5, A6, A7, A8, A9, A10, A11, A12, A13, A14, A15, A16, A17, A18, A19) := by
  subst hco
  refine pk_loop (fun n c (s : Int32) => wX_entering_4 post Fpr Fwo Frw Ftu Fun (nI cc) Ffw Fwc Fwt Fwb Fln Fem Fhh Fht Fhb Fhl Flt Flb Fbr Fl3 Fg3 A1 A2 A3 A4 A5 A6 A7 A8 A9 A10 A11 A12 A13 A14 A15 A16 A17 A18 A19 n s (nI c)) (fun c s => (s = -1 ∧ ∀ j, j < c → ¬ hx_N wc (v j)) ∨ (∃ e, e < c ∧ s = nI e ∧ hx_N wc (v e) ∧ ∀ j, j < c → hx_N wc (v j) → cn e ≤ cn j)) cc 0 (-1) (by omega) (Or.inl ⟨rfl, fun j hj => absurd hj (by omega)⟩) ?_ ?_
  · intro n s h
    refine pk_le cc cc (fun _ => ?_) (fun z => absurd z (by omega))
    rcases h with ⟨e, h1⟩ | ⟨e, he, es, h1, h2⟩
    · rw [e]
      exact H0 h1
    · rw [es]
      exact H1 e he h1 h2
  · intro n c s hc h hk
    refine pk_le cc c (fun z => absurd z (by omega)) (fun _ => wk_helps hfw hwc hb (show c < 5 by omega) (fun w hw => hv c w hc hw) (fun no => br_t rfl (nm_r (nI_1 c) (hk s ?_))) (fun yes => br_f (by decide) ?_))
    · rcases h with ⟨e, h1⟩ | ⟨e, he, es, h1, h2⟩
      · exact Or.inl ⟨e, lt_s h1 no⟩
      · exact Or.inr ⟨e, by omega, es, h1, lt_s h2 (fun z => absurd z no)⟩
    · rcases h with ⟨e, h1⟩ | ⟨e, he, es, h1, h2⟩
      · rw [e]
        refine br_t (by decide) (nm_r (nI_1 c) (hk (nI c) (Or.inr ⟨c, by omega, rfl, yes, ?_⟩)))
        exact lt_s (fun j hj z => absurd z (h1 j hj)) (fun _ => Nat.le_refl _)
      · rw [es]
        refine br_f (nI_pos (by omega)) ⟨pk_in c 4 (by omega), pk_in e 4 (by omega), ?_⟩
        rw [nI_clamp (show e < 2 ^ 31 by omega), nI_clamp (show c < 2 ^ 31 by omega), (hn e (by omega)).1, (hn c hc).1]
        have be := (hn e (by omega)).2
        have bc := (hn c hc).2
        refine pk_le (cn e) (cn c) (fun z => nm_r (nI_1 c) (hk (nI e) (Or.inr ⟨e, by omega, rfl, h1, lt_s h2 (fun _ => z)⟩))) (fun z => nm_r (nI_1 c) (hk (nI c) (Or.inr ⟨c, by omega, rfl, yes, lt_s (fun j hj y => ?_) (fun _ => Nat.le_refl _)⟩)))
        have := h2 j hj y
        omega
/-- row b stops a column not later than row r -/
def lq_le (R T : Nat → Int) (rn : Nat → Nat) (b r : Nat) : Prop := R b * T r < R r * T b ∨ (R b * T r = R r * T b ∧ rn b ≤ rn r)
theorem lq_tr {Rb Tb Rr Tr Rx Tx : Int} (tb : 0 < Tb) (tr : 0 < Tr) (tx : 0 < Tx) : (Rr * Tb < Rb * Tr → Rb * Tx ≤ Rx * Tb → Rr * Tx < Rx * Tr) ∧ (Rr * Tb ≤ Rb * Tr → Rb * Tx < Rx * Tb → Rr * Tx < Rx * Tr) ∧ (Rr * Tb = Rb * Tr → Rb * Tx = Rx * Tb → Rr * Tx = Rx * Tr) := by
  refine ⟨fun h1 h2 => ?_, fun h1 h2 => ?_, fun h1 h2 => ?_⟩
  · have a := Int.mul_lt_mul_of_pos_right h1 tx
    have b := Int.mul_le_mul_of_nonneg_right h2 (show 0 ≤ Tr by omega)
    apply Int.lt_of_mul_lt_mul_right (a := Tb) _ (by omega)
    have e1 : Rr * Tb * Tx = Rr * Tx * Tb := by grind
    have e2 : Rb * Tr * Tx = Rb * Tx * Tr := by grind
    have e3 : Rx * Tb * Tr = Rx * Tr * Tb := by grind
    omega
  · have a := Int.mul_le_mul_of_nonneg_right h1 (show 0 ≤ Tx by omega)
    have b := Int.mul_lt_mul_of_pos_right h2 tr
    apply Int.lt_of_mul_lt_mul_right (a := Tb) _ (by omega)
    have e1 : Rr * Tb * Tx = Rr * Tx * Tb := by grind
    have e2 : Rb * Tr * Tx = Rb * Tx * Tr := by grind
    have e3 : Rx * Tb * Tr = Rx * Tr * Tb := by grind
    omega
  · apply Int.eq_of_mul_eq_mul_right (show Tb ≠ 0 by omega)
    have e1 : Rr * Tx * Tb = (Rr * Tb) * Tx := by grind
    have e2 : Rx * Tr * Tb = (Rx * Tb) * Tr := by grind
    rw [e1, e2, h1, ← h2]
    grind
theorem lq_le_tr {R T : Nat → Int} {rn : Nat → Nat} {b r x : Nat} (tb : 0 < T b) (tr : 0 < T r) (tx : 0 < T x) (h : R r * T b < R b * T r ∨ (R r * T b = R b * T r ∧ rn r ≤ rn b)) (h2 : lq_le R T rn b x) : lq_le R T rn r x := by
  obtain ⟨t1, t2, t3⟩ := lq_tr (Rb := R b) (Rr := R r) (Rx := R x) tb tr tx
  rcases h with h | ⟨h, hn⟩
  · rcases h2 with h2 | ⟨h2, hm⟩
    · exact Or.inl (t1 h (by omega))
    · exact Or.inl (t1 h (by omega))
  · rcases h2 with h2 | ⟨h2, hm⟩
    · exact Or.inl (t2 (by omega) h2)
    · exact Or.inr ⟨t3 h h2, by omega⟩
theorem wk_leaving {post : Int32 → Prop} {Fpr Fwo Frw Ftu : Int32} {Fun : Int64} {Fco Ffw Fwc : Int32} {Fwt Fwb : Int64} {Fln Fem Fhh : Int32} {Fht Fhb : Int64} {Fhl : Int32} {Flt Flb : Int64} {Fbr Fl3 Fg3 : Int32} {A1 A2 A3 A4 A5 A6 A7 A8 A9 : Nat → Int32} {A10 : Nat → Int64} {A11 A12 : Nat → Int32} {A13 A14 A15 A16 A17 : Nat → Int64} {A18 A19 : Nat → Int32} {m e : Nat} {R T : Nat → Int} {rn : Nat → Nat} (hm : Frw = nI m) (hm16 : m ≤ 16) (he : e < 4) (hR : ∀ r, r < m → A10 (5 * r + 4) = am_L (R r) ∧ (R r).natAbs ≤ 172872000) (hT : ∀ r, r < m → A10 (5 * r + e) = am_L (T r) ∧ (T r).natAbs ≤ 57624) (hn : ∀ r, r < m → A11 r = nI (rn r) ∧ rn r < 100)
    (H0 : (∀ r, r < m → T r ≤ 0) → post (-1)) (H1 : ∀ l, l < m → 0 < T l → (∀ r, r < m → 0 < T r → lq_le R T rn l r) → post (nI l)) : wpX_leaving post (Fpr, Fwo, Frw, Ftu, Fun, Fco, Ffw, Fwc, Fwt, Fwb, Fln, Fem, Fhh, Fht, Fhb, Fhl, Flt, Flb, Fbr, Fl3, Fg3, A1, A2, A3, A4, A5, A6, A7, A8, A9, A10, A11, A12, A13, A14, A15, A16, A17, A18, A19) (nI e) := by
  subst hm
  refine pk_loop (fun n r (s : Int32) => wX_leaving_4 post (nI e) Fpr Fwo (nI m) Ftu Fun Fco Ffw Fwc Fwt Fwb Fln Fem Fhh Fht Fhb Fhl Flt Flb Fbr Fl3 Fg3 A1 A2 A3 A4 A5 A6 A7 A8 A9 A10 A11 A12 A13 A14 A15 A16 A17 A18 A19 n s (nI r)) (fun c s => (s = -1 ∧ ∀ j, j < c → T j ≤ 0) ∨ (∃ b, b < c ∧ s = nI b ∧ 0 < T b ∧ ∀ j, j < c → 0 < T j → lq_le R T rn b j)) m 0 (-1) (by omega) (Or.inl ⟨rfl, fun j hj => absurd hj (by omega)⟩) ?_ ?_
  · intro n s h
    refine pk_le m m (fun _ => ?_) (fun z => absurd z (by omega))
    rcases h with ⟨q, h1⟩ | ⟨b, hb, es, h1, h2⟩
    · rw [q]
      exact H0 h1
    · rw [es]
      exact H1 b hb h1 h2
  · intro n r s hr h hk
    obtain ⟨eT, bT⟩ := hT r hr
    obtain ⟨eR, bR⟩ := hR r hr
    refine pk_le m r (fun z => absurd z (by omega)) (fun _ => ex_cell (show r < 21 by omega) (show e < 5 by omega) ?_)
    rw [eT]
    refine ek_if (am_zl (am_Rabs bT (by omega))) (fun z => nm_r (nI_1 r) (hk s ?_)) (fun z => ?_)
    · rcases h with ⟨q, h1⟩ | ⟨b, hb, es, h1, h2⟩
      · exact Or.inl ⟨q, lt_s h1 z⟩
      · exact Or.inr ⟨b, by omega, es, h1, lt_s h2 (fun y => absurd z (by omega))⟩
    · have tr : 0 < T r := by omega
      rcases h with ⟨q, h1⟩ | ⟨b, hb, es, h1, h2⟩
      · rw [q]
        refine br_f (by decide) (br_f (by decide) (br_t (by decide) (br_f (by decide) (nm_r (nI_1 r) (hk (nI r) (Or.inr ⟨r, by omega, rfl, tr, ?_⟩))))))
        exact lt_s (fun j hj y => absurd (h1 j hj) (by omega)) (fun _ => Or.inr ⟨rfl, Nat.le_refl _⟩)
      · rw [es]
        obtain ⟨eTb, bTb⟩ := hT b (by omega)
        obtain ⟨eRb, bRb⟩ := hR b (by omega)
        have p0 : (0 : Int32) ≤ nI b := nI_pos' (by omega)
        refine br_t p0 (ex_cellx rfl rfl (show r < 21 by omega) (show 4 < 5 by omega) (ex_cell (show b < 21 by omega) (show e < 5 by omega) (br_t p0 (ex_cellx rfl rfl (show b < 21 by omega) (show 4 < 5 by omega) ?_))))
        rw [eR, eTb, eRb, am_Lmul, am_Lmul]
        have r1 := am_abs bR bTb
        have r2 := am_abs bRb bT
        have keep : (R b * T r < R r * T b ∨ (R b * T r = R r * T b ∧ rn b ≤ rn r)) → wX_leaving_106 post (wX_leaving_4 post (nI e) Fpr Fwo (nI m) Ftu Fun Fco Ffw Fwc Fwt Fwb Fln Fem Fhh Fht Fhb Fhl Flt Flb Fbr Fl3 Fg3 A1 A2 A3 A4 A5 A6 A7 A8 A9 A10 A11 A12 A13 A14 A15 A16 A17 A18 A19 n) (nI e) (nI b) (nI r) Fpr Fwo (nI m) Ftu Fun Fco Ffw Fwc Fwt Fwb Fln Fem Fhh Fht Fhb Fhl Flt Flb Fbr Fl3 Fg3 A1 A2 A3 A4 A5 A6 A7 A8 A9 A10 A11 A12 A13 A14 A15 A16 A17 A18 A19 :=
          fun y => br_t rfl (nm_r (nI_1 r) (hk (nI b) (Or.inr ⟨b, by omega, rfl, h1, lt_s h2 (fun _ => y)⟩)))
        have take : (R r * T b < R b * T r ∨ (R r * T b = R b * T r ∧ rn r ≤ rn b)) → wX_leaving_102 post (wX_leaving_4 post (nI e) Fpr Fwo (nI m) Ftu Fun Fco Ffw Fwc Fwt Fwb Fln Fem Fhh Fht Fhb Fhl Flt Flb Fbr Fl3 Fg3 A1 A2 A3 A4 A5 A6 A7 A8 A9 A10 A11 A12 A13 A14 A15 A16 A17 A18 A19 n) (nI e) (nI b) (nI r) Fpr Fwo (nI m) Ftu Fun Fco Ffw Fwc Fwt Fwb Fln Fem Fhh Fht Fhb Fhl Flt Flb Fbr Fl3 Fg3 A1 A2 A3 A4 A5 A6 A7 A8 A9 A10 A11 A12 A13 A14 A15 A16 A17 A18 A19 :=
          fun y => br_f (by decide) (nm_r (nI_1 r) (hk (nI r) (Or.inr ⟨r, by omega, rfl, tr, lt_s (fun j hj yj => lq_le_tr h1 tr yj y (h2 j hj yj)) (fun _ => Or.inr ⟨rfl, Nat.le_refl _⟩)⟩)))
        refine ek_if (am_Llt (am_Rabs r1 (by omega)) (am_Rabs r2 (by omega))) (fun y => take (Or.inl y)) (fun y => ek_if (am_Leq (am_Rabs r1 (by omega)) (am_Rabs r2 (by omega))) (fun x => ⟨pk_in r 16 (by omega), pk_in b 16 (by omega), ?_⟩) (fun x => keep (Or.inl (by omega))))
        rw [nI_clamp (show b < 2 ^ 31 by omega), nI_clamp (show r < 2 ^ 31 by omega), (hn b (by omega)).1, (hn r hr).1]
        have be := (hn b (by omega)).2
        have bc := (hn r hr).2
        exact pk_le (rn b) (rn r) (fun w => keep (Or.inr ⟨x.symm, w⟩)) (fun w => take (Or.inr ⟨x, by omega⟩))
end
section
theorem tb_z3 {L : Nat → Nat → Int} {f : Nat → Int} (hL : ∀ j, j < 3 → L j 3 = 0) (hf : f 3 = 0) : tb_T L f 3 = 0 := by
  unfold tb_T
  rw [la_d3]
  unfold la_m3
  rw [hL 0 (by decide), hL 1 (by decide), hL 2 (by decide), hf]
  have : ∀ x : Int, -(tb_s (la_D L) * x) = 0 ∨ x ≠ 0 := by
    intro x
    by_cases h : x = 0
    · left
      rw [h]
      omega
    · exact Or.inr h
  rcases this _ with h | h
  · exact h
  · exact absurd (by grind) h
def cb_rf (nf wf : Nat → Nat → Int) (m : Nat) (rn : Nat → Nat) : Nat → Nat → Int := fun r => if r < m then nf (rn r) else wf (r - m)
theorem cb_rf1 {nf wf : Nat → Nat → Int} {m r : Nat} {rn : Nat → Nat} (h : r < m) : cb_rf nf wf m rn r = nf (rn r) := by
  unfold cb_rf
  rw [if_pos h]
theorem cb_rf2 {nf wf : Nat → Nat → Int} {m w : Nat} {rn : Nat → Nat} : cb_rf nf wf m rn (m + w) = wf w := by
  unfold cb_rf
  rw [if_neg (by omega), show m + w - m = w by omega]
def cb_ctx (nf wf wl : Nat → Nat → Int) (m fw wc cc : Nat) (Nm : Nat → Prop) : Prop :=
  m ≤ 13 ∧ (∀ n, Nm n → tx_F (nf n) ∧ (n < 16 ∨ n = 99)) ∧ (∀ w, w < 5 → tx_F (wf w)) ∧
  ((wc = 4 ∧ fw = m ∧ ∀ w, w < 4 → wl w = wf w) ∨ (wc = 1 ∧ fw = m + 4 ∧ wl 0 = wf 4 ∧ ∀ w, w ≠ 0 → wl w = fun _ => 0)) ∧
  (cc = 4 ∨ (cc = 3 ∧ (∀ n, n ≠ 99 → nf n 3 = 0) ∧ ∀ w, wf w 3 = 0))
def cb_pic (nf wf : Nat → Nat → Int) (m last cc : Nat) (rn cn : Nat → Nat) (un : Int64) (A10 : Nat → Int64) (A11 A12 : Nat → Int32) : Prop :=
  un = am_L (tb_u (ch_L nf cn)) ∧ tx_ok A10 (ch_L nf cn) (cb_rf nf wf m rn) last ∧ (∀ r, r < m → A11 r = nI (rn r)) ∧ (∀ j, j < cc → A12 j = nI (cn j)) ∧
  (cc = 3 → cn 3 = 99 ∧ (∀ j, j < 3 → cn j ≠ 99) ∧ ∀ r, r < m → rn r ≠ 99)
theorem cb_z3 {nf wf wl : Nat → Nat → Int} {m fw wc cc : Nat} {Nm : Nat → Prop} {last : Nat} {rn cn : Nat → Nat} {un : Int64} {A10 : Nat → Int64} {A11 A12 : Nat → Int32} (hx : cb_ctx nf wf wl m fw wc cc Nm) (hp : cb_pic nf wf m last cc rn cn un A10 A11 A12) (hc : cc = 3) {f : Nat → Int} (hf : f 3 = 0) : tb_T (ch_L nf cn) f 3 = 0 := by
  obtain ⟨_, _, _, _, h5⟩ := hx
  obtain ⟨c3, cj, _⟩ := hp.2.2.2.2 hc
  rcases h5 with h | ⟨_, hn, _⟩
  · omega
  · exact tb_z3 (fun j hj => hn (cn j) (cj j hj)) hf
theorem cb_rf3 {nf wf wl : Nat → Nat → Int} {m fw wc cc : Nat} {Nm : Nat → Prop} {last : Nat} {rn cn : Nat → Nat} {un : Int64} {A10 : Nat → Int64} {A11 A12 : Nat → Int32} (hx : cb_ctx nf wf wl m fw wc cc Nm) (hp : cb_pic nf wf m last cc rn cn un A10 A11 A12) (hc : cc = 3) (r : Nat) : cb_rf nf wf m rn r 3 = 0 := by
  obtain ⟨_, _, _, _, h5⟩ := hx
  obtain ⟨c3, cj, rj⟩ := hp.2.2.2.2 hc
  rcases h5 with h | ⟨_, hn, hw⟩
  · omega
  · unfold cb_rf
    split
    · exact hn _ (rj r (by assumption))
    · exact hw _
theorem cb_exchange {post : St1 → Prop} {Fpr Fwo Frw Ftu : Int32} {Fun : Int64} {Fco Ffw Fwc : Int32} {Fwt Fwb : Int64} {Fln Fem Fhh : Int32} {Fht Fhb : Int64} {Fhl : Int32} {Flt Flb : Int64} {Fbr Fl3 Fg3 : Int32} {A1 A2 A3 A4 A5 A6 A7 A8 A9 : Nat → Int32} {A10 : Nat → Int64} {A11 A12 : Nat → Int32} {A13 A14 A15 A16 A17 : Nat → Int64} {A18 A19 : Nat → Int32} {nf wf wl : Nat → Nat → Int} {m fw wc cc l e : Nat} {Nm : Nat → Prop} {rn cn : Nat → Nat} (hx : cb_ctx nf wf wl m fw wc cc Nm) (hp : cb_pic nf wf m (fw + wc) cc rn cn Fun A10 A11 A12) (hC : ch_C nf m Nm rn cn) (hfw : Ffw = nI fw) (hwc : Fwc = nI wc) (hco : Fco = nI cc)
    (hl : l < m) (he : e < cc) (hT : tb_T (ch_L nf cn) (nf (rn l)) e ≠ 0)
    (H : ∀ un s b11 b12, cb_pic nf wf m (fw + wc) cc (ch_sw rn l (cn e)) (ch_sw cn e (rn l)) un s b11 b12 → post (Fpr, Fwo, Frw, Ftu, un, Fco, Ffw, Fwc, Fwt, Fwb, Fln, Fem, Fhh, Fht, Fhb, Fhl, Flt, Flb, Fbr, Fl3, Fg3, A1, A2, A3, A4, A5, A6, A7, A8, A9, s, b11, b12, A13, A14, A15, A16, A17, A18, A19)) : wpX_exchange post (Fpr, Fwo, Frw, Ftu, Fun, Fco, Ffw, Fwc, Fwt, Fwb, Fln, Fem, Fhh, Fht, Fhb, Fhl, Flt, Flb, Fbr, Fl3, Fg3, A1, A2, A3, A4, A5, A6, A7, A8, A9, A10, A11, A12, A13, A14, A15, A16, A17, A18, A19) (nI l) (nI e) := by
  have hx' := hx
  have hp' := hp
  obtain ⟨x1, x2, x3, x4, x5⟩ := hx'
  obtain ⟨p1, p2, p3, p4, p5⟩ := hp'
  obtain ⟨c1, c2, c3, c4⟩ := hC
  have e4 : e < 4 := by omega
  have hlast : fw + wc ≤ m + 5 ∧ m ≤ fw + wc := by omega
  have el : cb_rf nf wf m rn l = nf (rn l) := cb_rf1 hl
  have bn : ∀ n, Nm n → n < 100 := fun n hn => by
    have := (x2 n hn).2
    omega
  refine tx_exchange (last := fw + wc) (a := cn e) (b := rn l) p2 ?_ (fun j hj => (x2 _ (c4 j hj)).1) c1 p1 (by omega) e4 hco (by rw [hfw, hwc, nI_add]) (by omega) (by omega) ?_ (by rw [el]; exact hT) (p4 e he) (p3 l hl) (bn _ (c4 e e4)) (bn _ (c3 l hl)) ?_
  · intro r hr
    unfold cb_rf
    split
    · exact (x2 _ (c3 r (by assumption))).1
    · exact x3 _ (by omega)
  · rcases x5 with h | ⟨h, hn, hw⟩
    · exact Or.inl h
    · exact Or.inr ⟨h, by omega, fun r hr => cb_z3 hx hp h (cb_rf3 hx hp h r)⟩
  · intro s hs
    have eL : la_set (ch_L nf cn) e (cb_rf nf wf m rn l) = ch_L nf (ch_sw cn e (rn l)) := by rw [el, ch_Lsw]
    have er : (fun r => if r = l then ch_L nf cn e else cb_rf nf wf m rn r) = cb_rf nf wf m (ch_sw rn l (cn e)) := by
      funext r
      by_cases g : r = l
      · rw [if_pos g, g, cb_rf1 hl, ch_sws]
        rfl
      · rw [if_neg g]
        unfold cb_rf
        rw [ch_swn _ _ g]
    rw [eL, er] at hs
    rw [eL]
    refine H _ s _ _ ⟨rfl, hs, fun r hr => ?_, fun j hj => ?_, fun h3 => ?_⟩
    · by_cases g : r = l
      · rw [g, pk_us, ch_sws]
      · rw [pk_un g, ch_swn _ _ g]
        exact p3 r hr
    · by_cases g : j = e
      · rw [g, pk_us, ch_sws]
      · rw [pk_un g, ch_swn _ _ g]
        exact p4 j hj
    · obtain ⟨q1, q2, q3⟩ := p5 h3
      refine ⟨by rw [ch_swn _ _ (show 3 ≠ e by omega)]; exact q1, fun j hj => ?_, fun r hr => ?_⟩
      · unfold ch_sw
        split
        · exact q3 l hl
        · exact q2 j hj
      · unfold ch_sw
        split
        · exact q2 e (by omega)
        · exact q3 r hr
theorem hx_4 (v : Nat → Int) : hx_N 4 v ↔ lx_N v := by
  constructor
  · intro ⟨w, hw, h1, h2⟩
    have hw' : w = 0 ∨ w = 1 ∨ w = 2 ∨ w = 3 := by omega
    unfold lx_N
    rcases hw' with rfl | rfl | rfl | rfl
    · exact Or.inl h1
    · exact Or.inr ⟨h2 0 (by decide), Or.inl h1⟩
    · exact Or.inr ⟨h2 0 (by decide), Or.inr ⟨h2 1 (by decide), Or.inl h1⟩⟩
    · exact Or.inr ⟨h2 0 (by decide), Or.inr ⟨h2 1 (by decide), Or.inr ⟨h2 2 (by decide), h1⟩⟩⟩
  · intro h
    rcases h with h | ⟨z0, h | ⟨z1, h | ⟨z2, h⟩⟩⟩
    · exact ⟨0, by decide, h, fun k hk => absurd hk (by omega)⟩
    · exact ⟨1, by decide, h, fun k hk => by rw [show k = 0 by omega]; exact z0⟩
    · refine ⟨2, by decide, h, fun k hk => ?_⟩
      have : k = 0 ∨ k = 1 := by omega
      rcases this with rfl | rfl
      · exact z0
      · exact z1
    · refine ⟨3, by decide, h, fun k hk => ?_⟩
      have : k = 0 ∨ k = 1 ∨ k = 2 := by omega
      rcases this with rfl | rfl | rfl
      · exact z0
      · exact z1
      · exact z2
theorem hx_1 {v : Nat → Int} (hz : ∀ w, w ≠ 0 → v w = 0) : hx_N 1 v ↔ lx_N v := by
  constructor
  · intro ⟨w, hw, h1, h2⟩
    rw [show w = 0 by omega] at h1
    exact Or.inl h1
  · intro h
    have h1 := hz 1 (by decide)
    have h2 := hz 2 (by decide)
    have h3 := hz 3 (by decide)
    refine ⟨0, by decide, ?_, fun k hk => absurd hk (by omega)⟩
    unfold lx_N at h
    omega
theorem tb_T0 (L : Nat → Nat → Int) (j : Nat) : tb_T L (fun _ => 0) j = 0 := by
  unfold tb_T la_dot
  simp
theorem cb_hx {nf wf wl : Nat → Nat → Int} {m fw wc cc : Nat} {Nm : Nat → Prop} (hx : cb_ctx nf wf wl m fw wc cc Nm) (L : Nat → Nat → Int) (j : Nat) : hx_N wc (fun w => tb_T L (wl w) j) ↔ lx_N (fun w => tb_T L (wl w) j) := by
  obtain ⟨_, _, _, h4, _⟩ := hx
  rcases h4 with ⟨e, _, _⟩ | ⟨e, _, _, hz⟩
  · rw [e]
    exact hx_4 _
  · rw [e]
    refine hx_1 (fun w hw => ?_)
    try dsimp only
    rw [hz w hw, tb_T0]
theorem cb_cost {nf wf wl : Nat → Nat → Int} {m fw wc cc : Nat} {Nm : Nat → Prop} {rn cn : Nat → Nat} {un : Int64} {A10 : Nat → Int64} {A11 A12 : Nat → Int32} (hx : cb_ctx nf wf wl m fw wc cc Nm) (hp : cb_pic nf wf m (fw + wc) cc rn cn un A10 A11 A12) (hC : ch_C nf m Nm rn cn) {c w : Nat} (hc : c < 4) (hw : w < wc) : A10 (5 * (fw + w) + c) = am_L (tb_T (ch_L nf cn) (wl w) c) ∧ (tb_T (ch_L nf cn) (wl w) c).natAbs ≤ 57624 := by
  obtain ⟨x1, x2, x3, x4, x5⟩ := hx
  obtain ⟨c1, c2, c3, c4⟩ := hC
  have q := (hp.2.1 (fw + w) (by omega)).1 c hc
  rw [q]
  rcases x4 with ⟨e, ef, hl⟩ | ⟨e, ef, hl, _⟩
  · rw [ef, cb_rf2, hl w (by omega)]
    exact ⟨rfl, tx_Tb (fun j hj => (x2 _ (c4 j hj)).1) (x3 w (by omega)) c⟩
  · rw [ef, show m + 4 + w = m + 4 by omega, cb_rf2, show w = 0 by omega, hl]
    exact ⟨rfl, tx_Tb (fun j hj => (x2 _ (c4 j hj)).1) (x3 4 (by omega)) c⟩
theorem cb_wl3 {nf wf wl : Nat → Nat → Int} {m fw wc cc : Nat} {Nm : Nat → Prop} (hx : cb_ctx nf wf wl m fw wc cc Nm) (hc : cc = 3) {w : Nat} (hw : w < 4) : wl w 3 = 0 := by
  obtain ⟨_, _, _, h4, h5⟩ := hx
  rcases h5 with h | ⟨_, _, h⟩
  · omega
  · rcases h4 with ⟨_, _, hl⟩ | ⟨_, _, hl, hz⟩
    · rw [hl w hw]
      exact h w
    · by_cases g : w = 0
      · rw [g, hl]
        exact h 4
      · rw [hz w g]
theorem cb_n3 {nf wf wl : Nat → Nat → Int} {m fw wc cc : Nat} {Nm : Nat → Prop} {last : Nat} {rn cn : Nat → Nat} {un : Int64} {A10 : Nat → Int64} {A11 A12 : Nat → Int32} (hx : cb_ctx nf wf wl m fw wc cc Nm) (hp : cb_pic nf wf m last cc rn cn un A10 A11 A12) {j : Nat} (hj : j < 4) (h : lx_N (fun w => tb_T (ch_L nf cn) (wl w) j)) : j < cc := by
  rcases Nat.lt_or_ge j cc with z | z
  · exact z
  · obtain ⟨_, _, _, h4, h5⟩ := id hx
    have hc : cc = 3 := by
      rcases h5 with h | ⟨h, _⟩ <;> omega
    have : j = 3 := by omega
    rw [this] at h
    exact absurd h (lx_zero (fun w hw => cb_z3 hx hp hc (cb_wl3 hx hc hw)))
theorem cb_climb {post : St1 → Prop} {Fpr Fwo Frw Ftu : Int32} {Fun : Int64} {Fco Ffw Fwc : Int32} {Fwt Fwb : Int64} {Fln Fem Fhh : Int32} {Fht Fhb : Int64} {Fhl : Int32} {Flt Flb : Int64} {Fbr Fl3 Fg3 : Int32} {A1 A2 A3 A4 A5 A6 A7 A8 A9 : Nat → Int32} {A10 : Nat → Int64} {A11 A12 : Nat → Int32} {A13 A14 A15 A16 A17 : Nat → Int64} {A18 A19 : Nat → Int32} {nf wf wl : Nat → Nat → Int} {m fw wc cc : Nat} {Nm : Nat → Prop} {rn cn : Nat → Nat} (hx : cb_ctx nf wf wl m fw wc cc Nm) (hp : cb_pic nf wf m (fw + wc) cc rn cn Fun A10 A11 A12) (hV : bl_V nf m Nm rn cn) (hm : Frw = nI m) (hfw : Ffw = nI fw) (hwc : Fwc = nI wc) (hco : Fco = nI cc)
    (H : ∀ rn' cn' un s b11 b12, cb_pic nf wf m (fw + wc) cc rn' cn' un s b11 b12 → bl_V nf m Nm rn' cn' →
      ((∀ j, j < 4 → ¬ lx_N (fun w => tb_T (ch_L nf cn') (wl w) j)) ∨ (∃ e, e < 4 ∧ lx_N (fun w => tb_T (ch_L nf cn') (wl w) e) ∧ ∀ r, r < m → tb_T (ch_L nf cn') (nf (rn' r)) e ≤ 0)) →
      post (Fpr, Fwo, Frw, Ftu, un, Fco, Ffw, Fwc, Fwt, Fwb, Fln, Fem, Fhh, Fht, Fhb, Fhl, Flt, Flb, Fbr, Fl3, Fg3, A1, A2, A3, A4, A5, A6, A7, A8, A9, s, b11, b12, A13, A14, A15, A16, A17, A18, A19)) : wpX_climb post (Fpr, Fwo, Frw, Ftu, Fun, Fco, Ffw, Fwc, Fwt, Fwb, Fln, Fem, Fhh, Fht, Fhb, Fhl, Flt, Flb, Fbr, Fl3, Fg3, A1, A2, A3, A4, A5, A6, A7, A8, A9, A10, A11, A12, A13, A14, A15, A16, A17, A18, A19) := by
  refine pk_loop (fun n i (s : Int64 × (Nat → Int64) × (Nat → Int32) × (Nat → Int32)) => wX_climb_2 post n (nI i) Fpr Fwo Frw Ftu (s.1) Fco Ffw Fwc Fwt Fwb Fln Fem Fhh Fht Fhb Fhl Flt Flb Fbr Fl3 Fg3 A1 A2 A3 A4 A5 A6 A7 A8 A9 (s.2.1) (s.2.2.1) (s.2.2.2) A13 A14 A15 A16 A17 A18 A19) (fun i s => ∃ rn' cn', cb_pic nf wf m (fw + wc) cc rn' cn' s.1 s.2.1 s.2.2.1 s.2.2.2 ∧ ch_at (bl_V nf m Nm) (bl_P nf wl m) i rn' cn') 100000 0 (Fun, A10, A11, A12) (by omega) ⟨rn, cn, hp, ch_zero hV⟩ ?_ ?_
  · intro n s ⟨rn', cn', _, h⟩
    have := bl_bound (fun n hn => (hx.2.1 n hn).2) h
    exact absurd this (by omega)
  · intro n i s hi ⟨rn', cn', hq, hch⟩ hk
    obtain ⟨un, a10, a11, a12⟩ := s
    have hV' : bl_V nf m Nm rn' cn' := by
      obtain ⟨rs, cs, ls, es, ⟨h1, _⟩, e1, e2⟩ := hch
      rw [← e1, ← e2]
      exact h1 i (Nat.le_refl i)
    obtain ⟨x1, x2, x3, x4, x5⟩ := id hx
    obtain ⟨⟨c1, c2, c3, c4⟩, cR⟩ := id hV'
    have bn : ∀ n, Nm n → n < 100 := fun n hn => by
      have := (x2 n hn).2
      omega
    have fin : ((∀ j, j < 4 → ¬ lx_N (fun w => tb_T (ch_L nf cn') (wl w) j)) ∨ (∃ e, e < 4 ∧ lx_N (fun w => tb_T (ch_L nf cn') (wl w) e) ∧ ∀ r, r < m → tb_T (ch_L nf cn') (nf (rn' r)) e ≤ 0)) → post (Fpr, Fwo, Frw, Ftu, un, Fco, Ffw, Fwc, Fwt, Fwb, Fln, Fem, Fhh, Fht, Fhb, Fhl, Flt, Flb, Fbr, Fl3, Fg3, A1, A2, A3, A4, A5, A6, A7, A8, A9, a10, a11, a12, A13, A14, A15, A16, A17, A18, A19) := H rn' cn' un a10 a11 a12 hq hV'
    refine pk_le 100000 i (fun z => absurd z (by omega)) (fun _ => wk_entering (v := fun c w => tb_T (ch_L nf cn') (wl w) c) (cn := cn') hfw hwc hco (by omega) (by omega) (fun c w hc hw => cb_cost hx hq hV'.1 (by omega) hw) (fun c hc => ⟨hq.2.2.2.1 c hc, bn _ (c4 c (by omega))⟩) (fun no => ?_) (fun e he hN hmin => ?_))
    · refine br_f (by decide) (br_f (by decide) (fin (Or.inl (fun j hj z => ?_))))
      exact no j (cb_n3 hx hq hj z) ((cb_hx hx _ j).mpr z)
    · have p0 : (0 : Int32) ≤ nI e := nI_pos' (by omega)
      have hN' : lx_N (fun w => tb_T (ch_L nf cn') (wl w) e) := (cb_hx hx _ e).mp hN
      have tF : ∀ j, j < 4 → tx_F (ch_L nf cn' j) := fun j hj => (x2 _ (c4 j hj)).1
      refine br_t p0 (wk_leaving (m := m) (e := e) (R := fun r => tb_R (ch_L nf cn') (nf (rn' r))) (T := fun r => tb_T (ch_L nf cn') (nf (rn' r)) e) (rn := rn') hm (by omega) (by omega) (fun r hr => ?_) (fun r hr => ?_) (fun r hr => ⟨hq.2.2.1 r hr, bn _ (c3 r hr)⟩) (fun no => br_f (by decide) (fin (Or.inr ⟨e, by omega, hN', no⟩))) (fun l hl tl hmn => ?_))
      · have q := (hq.2.1 r (by omega)).2
        rw [cb_rf1 hr] at q
        exact ⟨q, tx_Rb tF (x2 _ (c3 r hr)).1⟩
      · have q := (hq.2.1 r (by omega)).1 e (by omega)
        rw [cb_rf1 hr] at q
        exact ⟨q, tx_Tb tF (x2 _ (c3 r hr)).1 e⟩
      · have P : bl_P nf wl m rn' cn' l e := ⟨hl, by omega, tl, hN', fun j hj z => hmin j (cb_n3 hx hq hj z) ((cb_hx hx _ j).mpr z), fun r hr tr => hmn r hr tr⟩
        have tn : tb_T (ch_L nf cn') (nf (rn' l)) e ≠ 0 := by
          have : 0 < tb_T (ch_L nf cn') (nf (rn' l)) e := tl
          omega
        refine br_t (nI_pos' (by omega)) (cb_exchange hx hq hV'.1 hfw hwc hco hl he tn (fun un' s' b11 b12 hq' => nm_r (nI_1 i) (hk (un', s', b11, b12) ⟨_, _, hq', ch_more hch P (bl_next hV' P)⟩)))
end
section
theorem rw_ix {r c : Nat} : nI r * 3 + nI c = nI (3 * r + c) := by
  rw [show (3 : Int32) = nI 3 from rfl, pk_mul, nI_add, Nat.mul_comm]
theorem rw_cl {r c : Nat} (hr : r < 100) (hc : c < 3) : (nI r * 3 + nI c).toNatClampNeg = 3 * r + c := by
  rw [rw_ix]
  exact nI_clamp (by omega)
theorem rw_in {r c N : Nat} (h : 3 * r + c < N) (hN : N < 2 ^ 31) : vp_in (nI r * 3 + nI c) N := by
  rw [rw_ix]
  exact vp_in_nI h hN
/-- is condition k there; is amount i counted down -/
def hs_b (F : Int32) (k : Nat) : Prop := ¬ ((F >>> (nI k &&& 31)) &&& 1) = 0
theorem wk_has {post : Int32 → Prop} {Fpr Fwo Frw Ftu : Int32} {Fun : Int64} {Fco Ffw Fwc : Int32} {Fwt Fwb : Int64} {Fln Fem Fhh : Int32} {Fht Fhb : Int64} {Fhl : Int32} {Flt Flb : Int64} {Fbr Fl3 Fg3 : Int32} {A1 A2 A3 A4 A5 A6 A7 A8 A9 : Nat → Int32} {A10 : Nat → Int64} {A11 A12 : Nat → Int32} {A13 A14 A15 A16 A17 : Nat → Int64} {A18 A19 : Nat → Int32} {k : Nat} (hk : k < 5) (H0 : ¬ hs_b Fpr k → post 0) (H1 : hs_b Fpr k → post 1) : wpX_has post (Fpr, Fwo, Frw, Ftu, Fun, Fco, Ffw, Fwc, Fwt, Fwb, Fln, Fem, Fhh, Fht, Fhb, Fhl, Flt, Flb, Fbr, Fl3, Fg3, A1, A2, A3, A4, A5, A6, A7, A8, A9, A10, A11, A12, A13, A14, A15, A16, A17, A18, A19) (nI k) :=
  br_f (nI_pos (by omega)) (pk_le 5 k (fun z => absurd z (by omega)) (fun _ => br_c (fun z => H0 (fun y => y z)) (fun z => H1 z)))
def rw_fr (F : Int32) (A5 A6 : Nat → Int32) (i : Nat) : Int := if ((F >>> (nI i &&& 31)) &&& 1) = 0 then (A5 i).toInt else (A6 i).toInt
def rw_sg (F : Int32) (i : Nat) : Int := if ((F >>> (nI i &&& 31)) &&& 1) = 0 then 1 else -1
def rw_sum (g : Nat → Int) : Nat → Int
  | 0 => 0
  | n + 1 => rw_sum g n + g n
theorem rw_sum3 (g : Nat → Int) : rw_sum g 3 = g 0 + g 1 + g 2 := by
  simp [rw_sum]
theorem rw_sg2 (F : Int32) (i : Nat) : rw_sg F i * rw_sg F i = 1 := by
  unfold rw_sg
  split <;> decide
theorem rw_sgc (F : Int32) (i : Nat) : rw_sg F i = 1 ∨ rw_sg F i = -1 := by
  unfold rw_sg
  split
  · exact Or.inl rfl
  · exact Or.inr rfl
/-- one row is written: condition k, with a sign -/
theorem rw_add {post : St1 → Prop} {Fpr Fwo Frw Ftu : Int32} {Fun : Int64} {Fco Ffw Fwc : Int32} {Fwt Fwb : Int64} {Fln Fem Fhh : Int32} {Fht Fhb : Int64} {Fhl : Int32} {Flt Flb : Int64} {Fbr Fl3 Fg3 : Int32} {A1 A2 A3 A4 A5 A6 A7 A8 A9 : Nat → Int32} {A10 : Nat → Int64} {A11 A12 : Nat → Int32} {A13 A14 A15 A16 A17 : Nat → Int64} {A18 A19 : Nat → Int32} {k m : Nat} {sg : Int} (hk : k < 5) (hm : m < 16) (hr : Frw = nI m)
    (H : ∀ b8 b9 : Nat → Int32, (∀ j, j < 3 * m → b8 j = A8 j) → (∀ i, i < 3 → b8 (3 * m + i) = am_I (rw_sg Ftu i * (sg * (A1 (3 * k + i)).toInt))) → (∀ j, j < m → b9 j = A9 j) →
      b9 m = am_I (sg * (A3 k).toInt - rw_sum (fun i => sg * (A1 (3 * k + i)).toInt * rw_fr Ftu A5 A6 i) 3) → post (Fpr, Fwo, (nI (m + 1)), Ftu, Fun, Fco, Ffw, Fwc, Fwt, Fwb, Fln, Fem, Fhh, Fht, Fhb, Fhl, Flt, Flb, Fbr, Fl3, Fg3, A1, A2, A3, A4, A5, A6, A7, b8, b9, A10, A11, A12, A13, A14, A15, A16, A17, A18, A19)) : wpX_addRow post (Fpr, Fwo, Frw, Ftu, Fun, Fco, Ffw, Fwc, Fwt, Fwb, Fln, Fem, Fhh, Fht, Fhb, Fhl, Flt, Flb, Fbr, Fl3, Fg3, A1, A2, A3, A4, A5, A6, A7, A8, A9, A10, A11, A12, A13, A14, A15, A16, A17, A18, A19) (nI k) (am_I sg) := by
  subst hr
  refine ⟨pk_in k 5 hk, nm_r (e' := am_I (sg * (A3 k).toInt - rw_sum (fun i => sg * (A1 (3 * k + i)).toInt * rw_fr Ftu A5 A6 i) 0)) ?_ ?_⟩
  · rw [nI_clamp (show k < 2 ^ 31 by omega)]
    show am_I sg * A3 k = am_I (sg * (A3 k).toInt - 0)
    rw [Int.sub_zero, ← am_Imul, ← am_Iof]
  · refine pk_loop (fun n i (s : Int32 × (Nat → Int32)) => wX_addRow_12 post (nI k) (am_I sg) Fpr Fwo (nI m) Ftu Fun Fco Ffw Fwc Fwt Fwb Fln Fem Fhh Fht Fhb Fhl Flt Flb Fbr Fl3 Fg3 n s.1 (nI i) A1 A2 A3 A4 A5 A6 A7 (s.2) A9 A10 A11 A12 A13 A14 A15 A16 A17 A18 A19) (fun i s => s.1 = am_I (sg * (A3 k).toInt - rw_sum (fun i => sg * (A1 (3 * k + i)).toInt * rw_fr Ftu A5 A6 i) i) ∧ (∀ j, j < 3 * m → s.2 j = A8 j) ∧ ∀ i', i' < i → s.2 (3 * m + i') = am_I (rw_sg Ftu i' * (sg * (A1 (3 * k + i')).toInt))) 3 0 (am_I (sg * (A3 k).toInt - rw_sum (fun i => sg * (A1 (3 * k + i)).toInt * rw_fr Ftu A5 A6 i) 0), A8) (by omega) ⟨rfl, fun _ _ => rfl, fun j hj => absurd hj (by omega)⟩ ?_ ?_
    · intro n s ⟨h1, h2, h3⟩
      refine pk_le 3 3 (fun _ => ⟨pk_in m 16 hm, nm_r (by rw [nI_clamp (show m < 2 ^ 31 by omega), h1]) (nm_r (nI_1 m) (H s.2 _ h2 h3 (fun j hj => ?_) ?_))⟩) (fun z => absurd z (by omega))
      · rw [pk_un (by omega)]
      · rw [pk_us]
    · intro n i s hi ⟨h1, h2, h3⟩ hk'
      have e1 : am_I sg * A1 (nI k * 3 + nI i).toNatClampNeg = am_I (sg * (A1 (3 * k + i)).toInt) := by
        rw [rw_cl (by omega) hi, ← am_Imul, ← am_Iof]
      have step : ∀ b8 : Nat → Int32, b8 = upd s.2 (3 * m + i) (am_I (rw_sg Ftu i * (sg * (A1 (3 * k + i)).toInt))) → wX_addRow_12 post (nI k) (am_I sg) Fpr Fwo (nI m) Ftu Fun Fco Ffw Fwc Fwt Fwb Fln Fem Fhh Fht Fhb Fhl Flt Flb Fbr Fl3 Fg3 n (am_I (sg * (A3 k).toInt - rw_sum (fun i => sg * (A1 (3 * k + i)).toInt * rw_fr Ftu A5 A6 i) (i + 1))) (nI (i + 1)) A1 A2 A3 A4 A5 A6 A7 b8 A9 A10 A11 A12 A13 A14 A15 A16 A17 A18 A19 := by
        intro b8 eb
        refine hk' (am_I (sg * (A3 k).toInt - rw_sum (fun i => sg * (A1 (3 * k + i)).toInt * rw_fr Ftu A5 A6 i) (i + 1)), b8) ⟨rfl, fun j hj => ?_, fun i' hi' => ?_⟩
        · show b8 j = A8 j
          rw [eb, pk_un (by omega)]
          exact h2 j hj
        · show b8 (3 * m + i') = _
          rw [eb]
          by_cases g : i' = i
          · rw [g, pk_us]
          · rw [pk_un (by omega)]
            exact h3 i' (by omega)
      have e2 : ∀ y : Int32, y = am_I (rw_fr Ftu A5 A6 i) → s.1 - am_I (sg * (A1 (3 * k + i)).toInt) * y = am_I (sg * (A3 k).toInt - rw_sum (fun i => sg * (A1 (3 * k + i)).toInt * rw_fr Ftu A5 A6 i) (i + 1)) := by
        intro y ey
        rw [ey, h1, am_Imul, am_Isub]
        congr 1
        show _ = sg * (A3 k).toInt - (rw_sum (fun i => sg * (A1 (3 * k + i)).toInt * rw_fr Ftu A5 A6 i) i + sg * (A1 (3 * k + i)).toInt * rw_fr Ftu A5 A6 i)
        omega
      refine pk_le 3 i (fun z => absurd z (by omega)) (fun _ => ⟨rw_in (by omega) (by omega), nm_r e1 (br_c (fun z => ?_) (fun z => ?_))⟩)
      · refine br_t rfl ⟨pk_in i 3 hi, nm_r (e2 _ ?_) (br_t rfl ⟨rw_in (by omega) (by omega), nm_r ?_ (nm_r (nI_1 i) (step _ rfl))⟩)⟩
        · rw [nI_clamp (show i < 2 ^ 31 by omega), rw_fr, if_pos z, ← am_Iof]
        · rw [rw_cl (by omega) hi, rw_sg, if_pos z, Int.one_mul]
      · refine br_f (by decide) ⟨pk_in i 3 hi, nm_r (e2 _ ?_) (br_f (by decide) ⟨rw_in (by omega) (by omega), nm_r ?_ (nm_r (nI_1 i) (step _ rfl))⟩)⟩
        · rw [nI_clamp (show i < 2 ^ 31 by omega), rw_fr, if_neg z, ← am_Iof]
        · rw [rw_cl (by omega) hi, rw_sg, if_neg z, am_Ineg]
          congr 2
          omega
/-- row r at a point; the point from the amounts; condition k at the amounts -/
def rw_at (A8 A9 : Nat → Int32) (r : Nat) (Y : Nat → Int) (q : Int) : Prop := (A8 (3 * r)).toInt * Y 0 + (A8 (3 * r + 1)).toInt * Y 1 + (A8 (3 * r + 2)).toInt * Y 2 ≤ (A9 r).toInt * q
def rw_Y (F : Int32) (A5 A6 : Nat → Int32) (X : Nat → Int) (q : Int) : Nat → Int := fun i => rw_sg F i * (X i - rw_fr F A5 A6 i * q)
def rw_dot (A1 : Nat → Int32) (k : Nat) (X : Nat → Int) : Int := (A1 (3 * k)).toInt * X 0 + (A1 (3 * k + 1)).toInt * X 1 + (A1 (3 * k + 2)).toInt * X 2
def rw_c (A1 A2 A3 : Nat → Int32) (k : Nat) (X : Nat → Int) (q : Int) : Prop := (¬ A2 k = 2 → rw_dot A1 k X ≤ (A3 k).toInt * q) ∧ (¬ A2 k = 0 → -(rw_dot A1 k X) ≤ -((A3 k).toInt * q))
def rw_cs (F Fwo : Int32) (A1 A2 A3 : Nat → Int32) (n : Nat) (X : Nat → Int) (q : Int) : Prop := ∀ k, k < n → hs_b F k → ¬ nI k = Fwo → rw_c A1 A2 A3 k X q
def rw_I (Ftu : Int32) (A5 A6 : Nat → Int32) (m : Nat) (b8 b9 : Nat → Int32) (S : (Nat → Int) → Int → Prop) : Prop :=
  (∀ j, j < 3 * m → (b8 j).toInt.natAbs ≤ 7) ∧ (∀ r, r < m → (b9 r).toInt.natAbs ≤ 600) ∧ ∀ X q, (∀ r, r < m → rw_at b8 b9 r (rw_Y Ftu A5 A6 X q) q) ↔ S X q
/-- the numbers that a question may have -/
def rw_box (A5 A6 : Nat → Int32) : Prop := ∀ i, i < 3 → 0 ≤ (A5 i).toInt ∧ (A5 i).toInt ≤ (A6 i).toInt ∧ (A6 i).toInt ≤ 20
theorem rw_frb {F : Int32} {A5 A6 : Nat → Int32} (h : rw_box A5 A6) {i : Nat} (hi : i < 3) : (rw_fr F A5 A6 i).natAbs ≤ 20 := by
  have := h i hi
  unfold rw_fr
  split <;> omega
theorem rw_row {Ftu : Int32} {A1 A3 A5 A6 : Nat → Int32} {k m : Nat} {sg : Int} {b8 b9 c8 c9 : Nat → Int32} {S : (Nat → Int) → Int → Prop} (hk : k < 5) (hA1 : ∀ j, j < 15 → (A1 j).toInt.natAbs ≤ 7) (hA3 : ∀ j, j < 5 → (A3 j).toInt.natAbs ≤ 99) (hbx : rw_box A5 A6) (hs : sg = 1 ∨ sg = -1) (h : rw_I Ftu A5 A6 m b8 b9 S)
    (h1 : ∀ j, j < 3 * m → c8 j = b8 j) (h2 : ∀ i, i < 3 → c8 (3 * m + i) = am_I (rw_sg Ftu i * (sg * (A1 (3 * k + i)).toInt))) (h3 : ∀ j, j < m → c9 j = b9 j)
    (h4 : c9 m = am_I (sg * (A3 k).toInt - rw_sum (fun i => sg * (A1 (3 * k + i)).toInt * rw_fr Ftu A5 A6 i) 3)) :
    rw_I Ftu A5 A6 (m + 1) c8 c9 (fun X q => S X q ∧ sg * rw_dot A1 k X ≤ sg * ((A3 k).toInt * q)) := by
  obtain ⟨i1, i2, i3⟩ := h
  have nb : ∀ i, i < 3 → (rw_sg Ftu i * (sg * (A1 (3 * k + i)).toInt)).natAbs ≤ 7 := by
    intro i hi
    have := hA1 (3 * k + i) (by omega)
    rcases rw_sgc Ftu i with e | e <;> rcases hs with e2 | e2 <;> rw [e, e2] <;> omega
  have nv : ∀ i, i < 3 → (c8 (3 * m + i)).toInt = rw_sg Ftu i * (sg * (A1 (3 * k + i)).toInt) := by
    intro i hi
    rw [h2 i hi]
    exact am_Iint (am_R3abs (nb i hi) (by omega))
  have fb : ∀ i, i < 3 → (sg * (A1 (3 * k + i)).toInt * rw_fr Ftu A5 A6 i).natAbs ≤ 140 := by
    intro i hi
    have a := hA1 (3 * k + i) (by omega)
    exact am_abs (A := 7) (B := 20) (by rcases hs with e2 | e2 <;> rw [e2] <;> omega) (rw_frb hbx hi)
  have f0 := fb 0 (by decide)
  have f1 := fb 1 (by decide)
  have f2 := fb 2 (by decide)
  have bb : (sg * (A3 k).toInt - rw_sum (fun i => sg * (A1 (3 * k + i)).toInt * rw_fr Ftu A5 A6 i) 3).natAbs ≤ 600 := by
    rw [rw_sum3]
    have a := hA3 k hk
    have : (sg * (A3 k).toInt).natAbs ≤ 99 := by rcases hs with e2 | e2 <;> rw [e2] <;> omega
    try dsimp only at f0 f1 f2 ⊢
    omega
  have bv : (c9 m).toInt = sg * (A3 k).toInt - rw_sum (fun i => sg * (A1 (3 * k + i)).toInt * rw_fr Ftu A5 A6 i) 3 := by
    rw [h4]
    exact am_Iint (am_R3abs bb (by omega))
  refine ⟨fun j hj => ?_, fun r hr => ?_, fun X q => ?_⟩
  · rcases Nat.lt_or_ge j (3 * m) with z | z
    · rw [h1 j z]
      exact i1 j z
    · have := nv (j - 3 * m) (by omega)
      rw [show 3 * m + (j - 3 * m) = j by omega] at this
      rw [this]
      exact nb _ (by omega)
  · rcases Nat.lt_or_ge r m with z | z
    · rw [h3 r z]
      exact i2 r z
    · rw [show r = m by omega, bv]
      exact bb
  · have old : (∀ r, r < m → rw_at c8 c9 r (rw_Y Ftu A5 A6 X q) q) ↔ S X q := by
      rw [← i3 X q]
      constructor
      · intro h r hr
        have := h r hr
        unfold rw_at at *
        rw [h1 _ (by omega), h1 _ (by omega), h1 _ (by omega), h3 r hr] at this
        exact this
      · intro h r hr
        have := h r hr
        unfold rw_at at *
        rw [h1 _ (by omega), h1 _ (by omega), h1 _ (by omega), h3 r hr]
        exact this
    have new : rw_at c8 c9 m (rw_Y Ftu A5 A6 X q) q ↔ sg * rw_dot A1 k X ≤ sg * ((A3 k).toInt * q) := by
      unfold rw_at rw_dot rw_Y
      have n0 := nv 0 (by decide)
      have n1 := nv 1 (by decide)
      have n2 := nv 2 (by decide)
      rw [Nat.add_zero] at n0
      rw [n0, n1, n2, bv, rw_sum3]
      have s0 := rw_sg2 Ftu 0
      have s1 := rw_sg2 Ftu 1
      have s2 := rw_sg2 Ftu 2
      try dsimp only
      rw [show 3 * k + 0 = 3 * k from rfl]
      generalize rw_sg Ftu 0 = g0 at *
      generalize rw_sg Ftu 1 = g1 at *
      generalize rw_sg Ftu 2 = g2 at *
      generalize rw_fr Ftu A5 A6 0 = r0 at *
      generalize rw_fr Ftu A5 A6 1 = r1 at *
      generalize rw_fr Ftu A5 A6 2 = r2 at *
      generalize (A1 (3 * k)).toInt = a0 at *
      generalize (A1 (3 * k + 1)).toInt = a1 at *
      generalize (A1 (3 * k + 2)).toInt = a2 at *
      generalize (A3 k).toInt = b at *
      have e : g0 * (sg * a0) * (g0 * (X 0 - r0 * q)) + g1 * (sg * a1) * (g1 * (X 1 - r1 * q)) + g2 * (sg * a2) * (g2 * (X 2 - r2 * q)) = (g0 * g0) * (sg * a0 * (X 0 - r0 * q)) + (g1 * g1) * (sg * a1 * (X 1 - r1 * q)) + (g2 * g2) * (sg * a2 * (X 2 - r2 * q)) := by grind
      rw [e, s0, s1, s2]
      have e2 : 1 * (sg * a0 * (X 0 - r0 * q)) + 1 * (sg * a1 * (X 1 - r1 * q)) + 1 * (sg * a2 * (X 2 - r2 * q)) = sg * (a0 * X 0 + a1 * X 1 + a2 * X 2) - (sg * a0 * r0 + sg * a1 * r1 + sg * a2 * r2) * q := by grind
      have e3 : (sg * b - (sg * a0 * r0 + sg * a1 * r1 + sg * a2 * r2)) * q = sg * (b * q) - (sg * a0 * r0 + sg * a1 * r1 + sg * a2 * r2) * q := by grind
      rw [e2, e3]
      omega
    constructor
    · intro h
      exact ⟨old.mp (fun r hr => h r (by omega)), new.mp (h m (by omega))⟩
    · intro ⟨ha, hb⟩ r hr
      rcases Nat.lt_or_ge r m with z | z
      · exact old.mpr ha r z
      · rw [show r = m by omega]
        exact new.mpr hb
theorem rw_Ieq {Ftu : Int32} {A5 A6 : Nat → Int32} {m : Nat} {b8 b9 : Nat → Int32} {S S' : (Nat → Int) → Int → Prop} (h : rw_I Ftu A5 A6 m b8 b9 S) (e : ∀ X q, S X q ↔ S' X q) : rw_I Ftu A5 A6 m b8 b9 S' :=
  ⟨h.1, h.2.1, fun X q => (h.2.2 X q).trans (e X q)⟩
theorem rw_csS {F Fwo : Int32} {A1 A2 A3 : Nat → Int32} {k : Nat} {X : Nat → Int} {q : Int} : rw_cs F Fwo A1 A2 A3 (k + 1) X q ↔ rw_cs F Fwo A1 A2 A3 k X q ∧ (hs_b F k → ¬ nI k = Fwo → rw_c A1 A2 A3 k X q) := by
  constructor
  · intro h
    exact ⟨fun j hj => h j (by omega), h k (by omega)⟩
  · intro ⟨h1, h2⟩ j hj
    rcases Nat.lt_or_ge j k with z | z
    · exact h1 j z
    · rw [show j = k by omega]
      exact h2
/-- what the rows say when all are written -/
def rw_ok (Fpr Fwo Ftu : Int32) (A1 A2 A3 A5 A6 : Nat → Int32) (m : Nat) (b8 b9 : Nat → Int32) : Prop :=
  m ≤ 10 ∧ (∀ j, j < 3 * (m + 3) → (b8 j).toInt.natAbs ≤ 7) ∧ (∀ r, r < m + 3 → (b9 r).toInt.natAbs ≤ 600) ∧
  (∀ X q, (∀ r, r < m → rw_at b8 b9 r (rw_Y Ftu A5 A6 X q) q) ↔ rw_cs Fpr Fwo A1 A2 A3 5 X q) ∧
  (∀ i j, i < 3 → j < 3 → (b8 (3 * (m + i) + j)).toInt = if i = j then 1 else 0) ∧ (∀ i, i < 3 → (b9 (m + i)).toInt = (A6 i).toInt - (A5 i).toInt)
theorem rw_box74 {post : St1 → Prop} {J : Int32 → Int32 → (Nat → Int32) → (Nat → Int32) → (Nat → Int32) → (Nat → Int32) → (Nat → Int32) → (Nat → Int32) → (Nat → Int32) → (Nat → Int32) → (Nat → Int32) → (Nat → Int64) → (Nat → Int32) → (Nat → Int32) → (Nat → Int64) → (Nat → Int64) → (Nat → Int64) → (Nat → Int64) → (Nat → Int64) → (Nat → Int32) → (Nat → Int32) → Prop} {Fpr Fwo Frw Ftu : Int32} {Fun : Int64} {Fco Ffw Fwc : Int32} {Fwt Fwb : Int64} {Fln Fem Fhh : Int32} {Fht Fhb : Int64} {Fhl : Int32} {Flt Flb : Int64} {Fbr Fl3 Fg3 : Int32} {A1 A2 A3 A4 A5 A6 A7 A8 A9 : Nat → Int32} {A10 : Nat → Int64} {A11 A12 : Nat → Int32} {A13 A14 A15 A16 A17 : Nat → Int64} {A18 A19 : Nat → Int32} {m i : Nat} (hm : m < 16) (hi : i < 3) (hr : Frw = nI m) (H : ∀ b8 : Nat → Int32, (∀ j, j < 3 * m → b8 j = A8 j) → (∀ j, j < 3 → b8 (3 * m + j) = if i = j then 1 else 0) → J (nI (i + 1)) (nI (m + 1)) A1 A2 A3 A4 A5 A6 A7 b8 (upd A9 m (A6 i - A5 i)) A10 A11 A12 A13 A14 A15 A16 A17 A18 A19) : ∃ n, wX_writeRows_74 post J (nI i) Fpr Fwo Frw Ftu Fun Fco Ffw Fwc Fwt Fwb Fln Fem Fhh Fht Fhb Fhl Flt Flb Fbr Fl3 Fg3 n 0 A1 A2 A3 A4 A5 A6 A7 A8 A9 A10 A11 A12 A13 A14 A15 A16 A17 A18 A19 := by
  subst hr
  refine pk_loop (fun n j (s : Nat → Int32) => wX_writeRows_74 post J (nI i) Fpr Fwo (nI m) Ftu Fun Fco Ffw Fwc Fwt Fwb Fln Fem Fhh Fht Fhb Fhl Flt Flb Fbr Fl3 Fg3 n (nI j) A1 A2 A3 A4 A5 A6 A7 s A9 A10 A11 A12 A13 A14 A15 A16 A17 A18 A19) (fun j s => (∀ x, x < 3 * m → s x = A8 x) ∧ ∀ x, x < j → s (3 * m + x) = if i = x then 1 else 0) 3 0 A8 (by omega) ⟨fun _ _ => rfl, fun x hx => absurd hx (by omega)⟩ ?_ ?_
  · intro n s ⟨h1, h2⟩
    exact pk_le 3 3 (fun _ => ⟨pk_in i 3 hi, pk_in i 3 hi, pk_in m 16 hm, nm_r (by rw [nI_clamp (show i < 2 ^ 31 by omega), nI_clamp (show m < 2 ^ 31 by omega)]) (nm_r (nI_1 m) (nm_r (nI_1 i) (H s h1 h2)))⟩) (fun z => absurd z (by omega))
  · intro n j s hj ⟨h1, h2⟩ hk
    have put : ∀ v : Int32, v = (if i = j then 1 else 0) → wX_writeRows_74 post J (nI i) Fpr Fwo (nI m) Ftu Fun Fco Ffw Fwc Fwt Fwb Fln Fem Fhh Fht Fhb Fhl Flt Flb Fbr Fl3 Fg3 n (nI (j + 1)) A1 A2 A3 A4 A5 A6 A7 (upd s (3 * m + j) v) A9 A10 A11 A12 A13 A14 A15 A16 A17 A18 A19 := by
      intro v ev
      refine hk _ ⟨fun x hx => ?_, fun x hx => ?_⟩
      · rw [pk_un (by omega)]
        exact h1 x hx
      · by_cases g : x = j
        · rw [g, pk_us, ev]
        · rw [pk_un (by omega)]
          exact h2 x (by omega)
    refine pk_le 3 j (fun z => absurd z (by omega)) (fun _ => pk_eq i j (fun z => ⟨rw_in (by omega) (by omega), nm_r (by rw [rw_cl (by omega) hj]) (nm_r (nI_1 j) (put 1 (by rw [if_pos z])))⟩) (fun z => ⟨rw_in (by omega) (by omega), nm_r (by rw [rw_cl (by omega) hj]) (nm_r (nI_1 j) (put 0 (by rw [if_neg z])))⟩))
theorem rw_write {post : St1 → Prop} {Fpr Fwo Frw Ftu : Int32} {Fun : Int64} {Fco Ffw Fwc : Int32} {Fwt Fwb : Int64} {Fln Fem Fhh : Int32} {Fht Fhb : Int64} {Fhl : Int32} {Flt Flb : Int64} {Fbr Fl3 Fg3 : Int32} {A1 A2 A3 A4 A5 A6 A7 A8 A9 : Nat → Int32} {A10 : Nat → Int64} {A11 A12 : Nat → Int32} {A13 A14 A15 A16 A17 : Nat → Int64} {A18 A19 : Nat → Int32} (hA1 : ∀ j, j < 15 → (A1 j).toInt.natAbs ≤ 7) (hA3 : ∀ j, j < 5 → (A3 j).toInt.natAbs ≤ 99) (hbx : rw_box A5 A6)
    (H : ∀ (m : Nat) (b8 b9 : Nat → Int32), rw_ok Fpr Fwo Ftu A1 A2 A3 A5 A6 m b8 b9 → post (Fpr, Fwo, (nI (m + 3)), Ftu, Fun, Fco, Ffw, Fwc, Fwt, Fwb, Fln, Fem, Fhh, Fht, Fhb, Fhl, Flt, Flb, Fbr, Fl3, Fg3, A1, A2, A3, A4, A5, A6, A7, b8, b9, A10, A11, A12, A13, A14, A15, A16, A17, A18, A19)) : wpX_writeRows post (Fpr, Fwo, Frw, Ftu, Fun, Fco, Ffw, Fwc, Fwt, Fwb, Fln, Fem, Fhh, Fht, Fhb, Fhl, Flt, Flb, Fbr, Fl3, Fg3, A1, A2, A3, A4, A5, A6, A7, A8, A9, A10, A11, A12, A13, A14, A15, A16, A17, A18, A19) := by
  refine pk_loop (fun n k (s : Int32 × (Nat → Int32) × (Nat → Int32)) => wX_writeRows_7 post n (nI k) Fpr Fwo (s.1) Ftu Fun Fco Ffw Fwc Fwt Fwb Fln Fem Fhh Fht Fhb Fhl Flt Flb Fbr Fl3 Fg3 A1 A2 A3 A4 A5 A6 A7 (s.2.1) (s.2.2) A10 A11 A12 A13 A14 A15 A16 A17 A18 A19) (fun k s => ∃ m, m ≤ 2 * k ∧ s.1 = nI m ∧ rw_I Ftu A5 A6 m s.2.1 s.2.2 (rw_cs Fpr Fwo A1 A2 A3 k)) 5 0 (0, A8, A9) (by omega) ⟨0, by omega, rfl, fun j hj => absurd hj (by omega), fun j hj => absurd hj (by omega), fun X q => ⟨fun _ k hk => absurd hk (by omega), fun _ r hr => absurd hr (by omega)⟩⟩ ?_ ?_
  · intro n s ⟨m, hm, e, hI⟩
    obtain ⟨rq, b8, b9⟩ := s
    have e' : rq = nI m := e
    subst e'
    obtain ⟨j1, j2, j3⟩ := hI
    refine pk_le 5 5 (fun _ => ?_) (fun z => absurd z (by omega))
    refine pk_loop (fun n i (s : Int32 × (Nat → Int32) × (Nat → Int32)) => wX_writeRows_67 post Fpr Fwo Ftu Fun Fco Ffw Fwc Fwt Fwb Fln Fem Fhh Fht Fhb Fhl Flt Flb Fbr Fl3 Fg3 n (nI i) s.1 A1 A2 A3 A4 A5 A6 A7 (s.2.1) (s.2.2) A10 A11 A12 A13 A14 A15 A16 A17 A18 A19) (fun i s => s.1 = nI (m + i) ∧ (∀ j, j < 3 * m → s.2.1 j = b8 j) ∧ (∀ j, j < m → s.2.2 j = b9 j) ∧ ∀ i', i' < i → (∀ j, j < 3 → s.2.1 (3 * (m + i') + j) = if i' = j then 1 else 0) ∧ s.2.2 (m + i') = A6 i' - A5 i') 3 0 (nI m, b8, b9) (by omega) ⟨rfl, fun _ _ => rfl, fun _ _ => rfl, fun x hx => absurd hx (by omega)⟩ ?_ ?_
    · intro n s ⟨h1, h2, h3, h4⟩
      obtain ⟨rq, c8, c9⟩ := s
      have e' : rq = nI (m + 3) := h1
      subst e'
      refine pk_le 3 3 (fun _ => H m c8 c9 ?_) (fun z => absurd z (by omega))
      have v8 : ∀ i j, i < 3 → j < 3 → (c8 (3 * (m + i) + j)).toInt = if i = j then 1 else 0 := by
        intro i j hi hj
        have := (h4 i hi).1 j hj
        try dsimp only at this
        rw [this]
        split <;> decide
      have v9 : ∀ i, i < 3 → (c9 (m + i)).toInt = (A6 i).toInt - (A5 i).toInt := by
        intro i hi
        have := (h4 i hi).2
        try dsimp only at this
        have b := hbx i hi
        rw [this, am_Iof (A6 i), am_Iof (A5 i), am_Isub, am_Iint ⟨by omega, by omega⟩, ← am_Iof, ← am_Iof]
      refine ⟨by omega, fun j hj => ?_, fun r hr => ?_, fun X q => ?_, v8, v9⟩
      · rcases Nat.lt_or_ge j (3 * m) with z | z
        · have := h2 j z
          try dsimp only at this
          rw [this]
          exact j1 j z
        · have := v8 ((j - 3 * m) / 3) ((j - 3 * m) % 3) (by omega) (by omega)
          rw [show 3 * (m + (j - 3 * m) / 3) + (j - 3 * m) % 3 = j by omega] at this
          rw [this]
          split <;> decide
      · rcases Nat.lt_or_ge r m with z | z
        · have := h3 r z
          try dsimp only at this
          rw [this]
          exact j2 r z
        · have := v9 (r - m) (by omega)
          rw [show m + (r - m) = r by omega] at this
          have b := hbx (r - m) (by omega)
          rw [this]
          omega
      · rw [← j3 X q]
        have q8 : ∀ j, j < 3 * m → c8 j = b8 j := h2
        have q9 : ∀ j, j < m → c9 j = b9 j := h3
        constructor
        · intro h r hr
          have := h r hr
          unfold rw_at at *
          rw [q8 _ (by omega), q8 _ (by omega), q8 _ (by omega), q9 r hr] at this
          exact this
        · intro h r hr
          have := h r hr
          unfold rw_at at *
          rw [q8 _ (by omega), q8 _ (by omega), q8 _ (by omega), q9 r hr]
          exact this
    · intro n i s hi ⟨h1, h2, h3, h4⟩ hk
      obtain ⟨rq, c8, c9⟩ := s
      have e' : rq = nI (m + i) := h1
      subst e'
      refine pk_le 3 i (fun z => absurd z (by omega)) (fun _ => rw_box74 (m := m + i) (by omega) hi rfl (fun d8 g1 g2 => hk (nI (m + (i + 1)), d8, upd c9 (m + i) (A6 i - A5 i)) ⟨rfl, fun j hj => ?_, fun j hj => ?_, fun i' hi' => ⟨fun j hj => ?_, ?_⟩⟩))
      · show d8 j = b8 j
        rw [g1 j (by omega)]
        exact h2 j hj
      · show upd c9 (m + i) (A6 i - A5 i) j = b9 j
        rw [pk_un (by omega)]
        exact h3 j hj
      · show d8 (3 * (m + i') + j) = _
        by_cases g : i' = i
        · rw [g]
          exact g2 j hj
        · rw [g1 _ (by omega)]
          exact (h4 i' (by omega)).1 j hj
      · show upd c9 (m + i) (A6 i - A5 i) (m + i') = _
        by_cases g : i' = i
        · rw [g, pk_us]
        · rw [pk_un (by omega)]
          exact (h4 i' (by omega)).2
  · intro n k s hk ⟨m, hm, e, hI⟩ hn
    obtain ⟨rq, b8, b9⟩ := s
    have e' : rq = nI m := e
    subst e'
    have pas : (∀ X q, rw_cs Fpr Fwo A1 A2 A3 k X q ↔ rw_cs Fpr Fwo A1 A2 A3 (k + 1) X q) → wX_writeRows_7 post n (nI (k + 1)) Fpr Fwo (nI m) Ftu Fun Fco Ffw Fwc Fwt Fwb Fln Fem Fhh Fht Fhb Fhl Flt Flb Fbr Fl3 Fg3 A1 A2 A3 A4 A5 A6 A7 b8 b9 A10 A11 A12 A13 A14 A15 A16 A17 A18 A19 :=
      fun h => hn (nI m, b8, b9) ⟨m, by omega, rfl, rw_Ieq hI h⟩
    refine pk_le 5 k (fun z => absurd z (by omega)) (fun _ => wk_has hk (fun no => br_t rfl (nm_r (nI_1 k) (pas (fun X q => ?_)))) (fun yes => br_f (by decide) (br_c (fun ew => nm_r (nI_1 k) (pas (fun X q => ?_))) (fun nw => ⟨pk_in k 5 hk, ?_⟩))))
    · rw [rw_csS]
      exact ⟨fun h => ⟨h, fun y => absurd y no⟩, fun h => h.1⟩
    · rw [rw_csS]
      exact ⟨fun h => ⟨h, fun _ y => absurd ew y⟩, fun h => h.1⟩
    · rw [nI_clamp (show k < 2 ^ 31 by omega)]
      have k44 : ∀ (m' : Nat) (c8 c9 : Nat → Int32), m' ≤ 2 * k + 1 → rw_I Ftu A5 A6 m' c8 c9 (fun X q => rw_cs Fpr Fwo A1 A2 A3 k X q ∧ (¬ A2 k = 2 → rw_dot A1 k X ≤ (A3 k).toInt * q)) → wX_writeRows_44 post (wX_writeRows_7 post n) (nI k) Fpr Fwo (nI m') Ftu Fun Fco Ffw Fwc Fwt Fwb Fln Fem Fhh Fht Fhb Fhl Flt Flb Fbr Fl3 Fg3 A1 A2 A3 A4 A5 A6 A7 c8 c9 A10 A11 A12 A13 A14 A15 A16 A17 A18 A19 := by
        intro m' c8 c9 hm' hI'
        refine ⟨pk_in k 5 hk, ?_⟩
        rw [nI_clamp (show k < 2 ^ 31 by omega)]
        refine br_c (fun z => nm_r (nI_1 k) (hn (nI m', c8, c9) ⟨m', by omega, rfl, rw_Ieq hI' (fun X q => ?_)⟩)) (fun z => ?_)
        · rw [rw_csS]
          exact ⟨fun h => ⟨h.1, fun _ _ => ⟨h.2, fun y => absurd z y⟩⟩, fun h => ⟨h.1, (h.2 yes nw).1⟩⟩
        · refine rw_add (sg := -1) hk (by omega) rfl (fun d8 d9 g1 g2 g3 g4 => nm_r (nI_1 k) (hn (nI (m' + 1), d8, d9) ⟨m' + 1, by omega, rfl, rw_Ieq (rw_row hk hA1 hA3 hbx (Or.inr rfl) hI' g1 g2 g3 g4) (fun X q => ?_)⟩))
          rw [rw_csS]
          constructor
          · intro ⟨⟨a, b⟩, c⟩
            exact ⟨a, fun _ _ => ⟨b, fun _ => by omega⟩⟩
          · intro ⟨a, b⟩
            obtain ⟨b1, b2⟩ := b yes nw
            exact ⟨⟨a, b1⟩, by have := b2 z; omega⟩
      refine br_c (fun z => k44 m b8 b9 (by omega) (rw_Ieq hI (fun X q => ⟨fun h => ⟨h, fun y => absurd z y⟩, fun h => h.1⟩))) (fun z => ?_)
      refine rw_add (sg := 1) hk (by omega) rfl (fun d8 d9 g1 g2 g3 g4 => k44 (m + 1) d8 d9 (by omega) (rw_Ieq (rw_row hk hA1 hA3 hbx (Or.inl rfl) hI g1 g2 g3 g4) (fun X q => ?_)))
      constructor
      · intro ⟨a, b⟩
        exact ⟨a, fun _ => by omega⟩
      · intro ⟨a, b⟩
        exact ⟨a, by have := b z; omega⟩
end
section
/-- the number of amount i in worth w -/
def fm_nm (A7 : Nat → Int32) (w i : Nat) : Int := if w = 0 then (A7 i).toInt else if w - 1 = i then -1 else 0
/-- the forms: names, worths -/
def fm_nf (xe : Int) (A8 A9 : Nat → Int32) : Nat → Nat → Int := fun n i => if n = 99 then la_e 3 i else if n < 3 then la_e n i else if i = 4 then (A9 (n - 3)).toInt else if i = 3 then xe else -(A8 (3 * (n - 3) + i)).toInt
def fm_wf (F : Int32) (A5 A6 A7 : Nat → Int32) : Nat → Nat → Int := fun w i => if w = 4 then -la_e 3 i else if i = 4 then rw_sum (fun i => fm_nm A7 w i * rw_fr F A5 A6 i) 3 else if i = 3 then 0 else rw_sg F i * fm_nm A7 w i
def fm_wf2 (F : Int32) (A5 A6 A7 : Nat → Int32) : Nat → Nat → Int := fun w => if w = 4 then (fun _ => 0) else fm_wf F A5 A6 A7 w
/-- the row r of the first table -/
def sz_V (A8 A9 : Nat → Int32) (r c : Nat) : Int64 := if c < 3 then am_L (A8 (3 * r + c)).toInt else if c = 3 then 0 else am_L (A9 r).toInt
def sz_W (F : Int32) (A5 A6 A7 : Nat → Int32) (w c : Nat) : Int64 := if c < 3 then am_L (-(rw_sg F c * fm_nm A7 w c)) else if c = 3 then 0 else am_L (rw_sum (fun i => fm_nm A7 w i * rw_fr F A5 A6 i) 3)
theorem sz_toL (x : Int32) : x.toInt64 = am_L x.toInt := by
  have h : (am_I x.toInt).toInt64 = am_L x.toInt := am_IL (am_IR3 x)
  rw [← am_Iof] at h
  exact h
theorem sz_45 {post : St1 → Prop} {J : Int32 → (Nat → Int32) → (Nat → Int32) → (Nat → Int32) → (Nat → Int32) → (Nat → Int32) → (Nat → Int32) → (Nat → Int32) → (Nat → Int32) → (Nat → Int32) → (Nat → Int64) → (Nat → Int32) → (Nat → Int32) → (Nat → Int64) → (Nat → Int64) → (Nat → Int64) → (Nat → Int64) → (Nat → Int64) → (Nat → Int32) → (Nat → Int32) → Prop} {Fpr Fwo Frw Ftu : Int32} {Fun : Int64} {Fco Ffw Fwc : Int32} {Fwt Fwb : Int64} {Fln Fem Fhh : Int32} {Fht Fhb : Int64} {Fhl : Int32} {Flt Flb : Int64} {Fbr Fl3 Fg3 : Int32} {A1 A2 A3 A4 A5 A6 A7 A8 A9 : Nat → Int32} {A10 : Nat → Int64} {A11 A12 : Nat → Int32} {A13 A14 A15 A16 A17 : Nat → Int64} {A18 A19 : Nat → Int32} {r : Nat} (hr : r < 16) (H : ∀ s : Nat → Int64, (∀ r' c, r' < r → c < 5 → s (5 * r' + c) = A10 (5 * r' + c)) → (∀ c, c < 5 → s (5 * r + c) = sz_V A8 A9 r c) → J (nI (r + 1)) A1 A2 A3 A4 A5 A6 A7 A8 A9 s A11 A12 A13 A14 A15 A16 A17 A18 A19) : ∃ n, wX_setUp_45 post J (nI r) Fpr Fwo Frw Ftu Fun Fco Ffw Fwc Fwt Fwb Fln Fem Fhh Fht Fhb Fhl Flt Flb Fbr Fl3 Fg3 n 0 A1 A2 A3 A4 A5 A6 A7 A8 A9 A10 A11 A12 A13 A14 A15 A16 A17 A18 A19 := by
  refine pk_loop (fun n i (s : Nat → Int64) => wX_setUp_45 post J (nI r) Fpr Fwo Frw Ftu Fun Fco Ffw Fwc Fwt Fwb Fln Fem Fhh Fht Fhb Fhl Flt Flb Fbr Fl3 Fg3 n (nI i) A1 A2 A3 A4 A5 A6 A7 A8 A9 s A11 A12 A13 A14 A15 A16 A17 A18 A19) (fun i s => (∀ r' c, r' < r → c < 5 → s (5 * r' + c) = A10 (5 * r' + c)) ∧ ∀ c, c < i → s (5 * r + c) = sz_V A8 A9 r c) 3 0 A10 (by omega) ⟨fun _ _ _ _ => rfl, fun x hx => absurd hx (by omega)⟩ ?_ ?_
  · intro n s ⟨h1, h2⟩
    refine pk_le 3 3 (fun _ => ⟨ex_in (c := 3) (by omega) (by omega), nm_r (e' := vp_updL s (5 * r + 3) 0) (by rw [show (3 : Int32) = nI 3 from rfl, ex_cl (by omega) (by omega)]) ⟨pk_in r 16 hr, ⟨ex_in (c := 4) (by omega) (by omega), nm_r (e' := vp_updL (vp_updL s (5 * r + 3) 0) (5 * r + 4) (am_L (A9 r).toInt)) ?_ (nm_r (nI_1 r) (H _ (fun r' c hr' hc => ?_) (fun c hc => ?_)))⟩⟩⟩) (fun z => absurd z (by omega))
    · rw [show (4 : Int32) = nI 4 from rfl, ex_cl (by omega) (by omega), nI_clamp (show r < 2 ^ 31 by omega), sz_toL]
    · rw [ex_upd (by omega) hc, if_neg (by omega), ex_upd (by omega) hc, if_neg (by omega)]
      exact h1 r' c hr' hc
    · rw [ex_upd (by omega) hc]
      by_cases g : r = r ∧ c = 4
      · rw [if_pos g, g.2]
        rfl
      · rw [if_neg g, ex_upd (by omega) hc]
        by_cases g2 : r = r ∧ c = 3
        · rw [if_pos g2, g2.2]
          rfl
        · rw [if_neg g2]
          exact h2 c (by omega)
  · intro n i s hi ⟨h1, h2⟩ hk
    refine pk_le 3 i (fun z => absurd z (by omega)) (fun _ => ⟨rw_in (by omega) (by omega), ex_in (by omega) (by omega), nm_r (e' := vp_updL s (5 * r + i) (am_L (A8 (3 * r + i)).toInt)) (by rw [ex_cl (by omega) (by omega), rw_cl (by omega) hi, sz_toL]) (nm_r (nI_1 i) (hk _ ⟨fun r' c hr' hc => ?_, fun c hc => ?_⟩))⟩)
    · rw [ex_upd (by omega) hc, if_neg (by omega)]
      exact h1 r' c hr' hc
    · rw [ex_upd (by omega) (by omega)]
      by_cases g : r = r ∧ c = i
      · rw [if_pos g, g.2, sz_V, if_pos hi]
      · rw [if_neg g]
        exact h2 c (by omega)
theorem sz_149 {post : St1 → Prop} {J : Int32 → (Nat → Int32) → (Nat → Int32) → (Nat → Int32) → (Nat → Int32) → (Nat → Int32) → (Nat → Int32) → (Nat → Int32) → (Nat → Int32) → (Nat → Int32) → (Nat → Int64) → (Nat → Int32) → (Nat → Int32) → (Nat → Int64) → (Nat → Int64) → (Nat → Int64) → (Nat → Int64) → (Nat → Int64) → (Nat → Int32) → (Nat → Int32) → Prop} {Fpr Fwo Frw Ftu : Int32} {Fun : Int64} {Fco Ffw Fwc : Int32} {Fwt Fwb : Int64} {Fln Fem Fhh : Int32} {Fht Fhb : Int64} {Fhl : Int32} {Flt Flb : Int64} {Fbr Fl3 Fg3 : Int32} {A1 A2 A3 A4 A5 A6 A7 A8 A9 : Nat → Int32} {A10 : Nat → Int64} {A11 A12 : Nat → Int32} {A13 A14 A15 A16 A17 : Nat → Int64} {A18 A19 : Nat → Int32} {r w : Nat} (hr : r < 20) (hw : w < 4) (hbx : rw_box A5 A6) (hA7 : ∀ j, j < 3 → (A7 j).toInt.natAbs ≤ 7) (h3 : A10 (5 * r + 3) = 0) (h4 : A10 (5 * r + 4) = 0)
    (H : ∀ s : Nat → Int64, (∀ r' c, r' < r → c < 5 → s (5 * r' + c) = A10 (5 * r' + c)) → (∀ c, c < 5 → s (5 * r + c) = sz_W Ftu A5 A6 A7 w c) → J (nI (w + 1)) A1 A2 A3 A4 A5 A6 A7 A8 A9 s A11 A12 A13 A14 A15 A16 A17 A18 A19) : ∃ n, wX_setUp_149 post J (nI w) (nI r) Fpr Fwo Frw Ftu Fun Fco Ffw Fwc Fwt Fwb Fln Fem Fhh Fht Fhb Fhl Flt Flb Fbr Fl3 Fg3 n 0 A1 A2 A3 A4 A5 A6 A7 A8 A9 A10 A11 A12 A13 A14 A15 A16 A17 A18 A19 := by
  refine pk_loop (fun n i (s : Nat → Int64) => wX_setUp_149 post J (nI w) (nI r) Fpr Fwo Frw Ftu Fun Fco Ffw Fwc Fwt Fwb Fln Fem Fhh Fht Fhb Fhl Flt Flb Fbr Fl3 Fg3 n (nI i) A1 A2 A3 A4 A5 A6 A7 A8 A9 s A11 A12 A13 A14 A15 A16 A17 A18 A19) (fun i s => (∀ r' c, r' < r → c < 5 → s (5 * r' + c) = A10 (5 * r' + c)) ∧ (∀ c, c < i → s (5 * r + c) = am_L (-(rw_sg Ftu c * fm_nm A7 w c))) ∧ s (5 * r + 3) = 0 ∧ s (5 * r + 4) = am_L (rw_sum (fun i => fm_nm A7 w i * rw_fr Ftu A5 A6 i) i)) 3 0 A10 (by omega) ⟨fun _ _ _ _ => rfl, fun x hx => absurd hx (by omega), h3, h4⟩ ?_ ?_
  · intro n s ⟨g1, g2, g3, g4⟩
    refine pk_le 3 3 (fun _ => nm_r (nI_1 w) (H s g1 (fun c hc => ?_))) (fun z => absurd z (by omega))
    unfold sz_W
    by_cases q : c < 3
    · rw [if_pos q]
      exact g2 c q
    · rw [if_neg q]
      by_cases q2 : c = 3
      · rw [if_pos q2, q2]
        exact g3
      · rw [if_neg q2, show c = 4 by omega]
        exact g4
  · intro n i s hi ⟨g1, g2, g3, g4⟩ hk
    have fb := rw_frb (F := Ftu) hbx hi
    have nb : (fm_nm A7 w i).natAbs ≤ 7 := by
      unfold fm_nm
      split
      · exact hA7 i hi
      · split <;> decide
    have pb := am_abs nb fb
    have k245 : ∀ (z x6 : Int32) (v : Int64), z = am_I (fm_nm A7 w i) → x6 = am_I (rw_fr Ftu A5 A6 i) → v = am_L (-(rw_sg Ftu i * fm_nm A7 w i)) → wX_setUp_245 post J (wX_setUp_149 post J (nI w) (nI r) Fpr Fwo Frw Ftu Fun Fco Ffw Fwc Fwt Fwb Fln Fem Fhh Fht Fhb Fhl Flt Flb Fbr Fl3 Fg3 n) (nI w) (nI r) (nI i) z x6 v (nI r * 5 + nI i) Fpr Fwo Frw Ftu Fun Fco Ffw Fwc Fwt Fwb Fln Fem Fhh Fht Fhb Fhl Flt Flb Fbr Fl3 Fg3 A1 A2 A3 A4 A5 A6 A7 A8 A9 s A11 A12 A13 A14 A15 A16 A17 A18 A19 := by
      intro z x6 v ez e6 ev
      refine ⟨ex_in (by omega) (by omega), nm_r (e' := vp_updL s (5 * r + i) v) (by rw [ex_cl (by omega) (by omega)]) ⟨ex_in (c := 4) (by omega) (by omega), ex_in (c := 4) (by omega) (by omega), nm_r (e' := vp_updL (vp_updL s (5 * r + i) v) (5 * r + 4) (am_L (rw_sum (fun i => fm_nm A7 w i * rw_fr Ftu A5 A6 i) (i + 1)))) ?_ (nm_r (nI_1 i) (hk _ ⟨fun r' c hr' hc => ?_, fun c hc => ?_, ?_, ?_⟩))⟩⟩
      · rw [show (4 : Int32) = nI 4 from rfl, ex_cl (by omega) (by omega), ex_upd (by omega) (by omega), if_neg (by omega), g4, ez, e6, am_Imul, am_IL (am_R3abs pb (by omega)), am_Ladd]
        rfl
      · rw [ex_upd (by omega) hc, if_neg (by omega), ex_upd (by omega) hc, if_neg (by omega)]
        exact g1 r' c hr' hc
      · rw [ex_upd (by omega) (by omega), if_neg (by omega), ex_upd (by omega) (by omega)]
        by_cases q : r = r ∧ c = i
        · rw [if_pos q, q.2, ev]
        · rw [if_neg q]
          exact g2 c (by omega)
      · rw [ex_upd (by omega) (by omega), if_neg (by omega), ex_upd (by omega) (by omega), if_neg (by omega)]
        exact g3
      · rw [ex_upd (by omega) (by omega), if_pos ⟨rfl, rfl⟩]
    have k197 : ∀ (z : Int32), z = am_I (fm_nm A7 w i) → (((Ftu >>> (nI i &&& 31)) &&& 1) = 0 → wX_setUp_197 post J (wX_setUp_149 post J (nI w) (nI r) Fpr Fwo Frw Ftu Fun Fco Ffw Fwc Fwt Fwb Fln Fem Fhh Fht Fhb Fhl Flt Flb Fbr Fl3 Fg3 n) (nI w) (nI r) (nI i) 0 z Fpr Fwo Frw Ftu Fun Fco Ffw Fwc Fwt Fwb Fln Fem Fhh Fht Fhb Fhl Flt Flb Fbr Fl3 Fg3 A1 A2 A3 A4 A5 A6 A7 A8 A9 s A11 A12 A13 A14 A15 A16 A17 A18 A19) ∧ (¬ ((Ftu >>> (nI i &&& 31)) &&& 1) = 0 → wX_setUp_197 post J (wX_setUp_149 post J (nI w) (nI r) Fpr Fwo Frw Ftu Fun Fco Ffw Fwc Fwt Fwb Fln Fem Fhh Fht Fhb Fhl Flt Flb Fbr Fl3 Fg3 n) (nI w) (nI r) (nI i) 1 z Fpr Fwo Frw Ftu Fun Fco Ffw Fwc Fwt Fwb Fln Fem Fhh Fht Fhb Fhl Flt Flb Fbr Fl3 Fg3 A1 A2 A3 A4 A5 A6 A7 A8 A9 s A11 A12 A13 A14 A15 A16 A17 A18 A19) := by
      intro z ez
      constructor
      · intro d
        refine br_t rfl ⟨pk_in i 3 hi, br_t rfl (k245 z _ _ ez ?_ ?_)⟩
        · rw [nI_clamp (show i < 2 ^ 31 by omega), rw_fr, if_pos d, ← am_Iof]
        · rw [ez, am_Ineg, am_IL (am_R3abs (A := 7) (by omega) (by omega)), rw_sg, if_pos d, Int.one_mul]
      · intro d
        refine br_f (by decide) ⟨pk_in i 3 hi, br_f (by decide) (k245 z _ _ ez ?_ ?_)⟩
        · rw [nI_clamp (show i < 2 ^ 31 by omega), rw_fr, if_neg d, ← am_Iof]
        · rw [ez, am_IL (am_R3abs nb (by omega)), rw_sg, if_neg d]
          congr 1
          omega
    have k170 : ∀ d : Int32, (∀ z : Int32, z = am_I (fm_nm A7 w i) → wX_setUp_197 post J (wX_setUp_149 post J (nI w) (nI r) Fpr Fwo Frw Ftu Fun Fco Ffw Fwc Fwt Fwb Fln Fem Fhh Fht Fhb Fhl Flt Flb Fbr Fl3 Fg3 n) (nI w) (nI r) (nI i) d z Fpr Fwo Frw Ftu Fun Fco Ffw Fwc Fwt Fwb Fln Fem Fhh Fht Fhb Fhl Flt Flb Fbr Fl3 Fg3 A1 A2 A3 A4 A5 A6 A7 A8 A9 s A11 A12 A13 A14 A15 A16 A17 A18 A19) → wX_setUp_170 post J (wX_setUp_149 post J (nI w) (nI r) Fpr Fwo Frw Ftu Fun Fco Ffw Fwc Fwt Fwb Fln Fem Fhh Fht Fhb Fhl Flt Flb Fbr Fl3 Fg3 n) (nI w) (nI r) (nI i) d Fpr Fwo Frw Ftu Fun Fco Ffw Fwc Fwt Fwb Fln Fem Fhh Fht Fhb Fhl Flt Flb Fbr Fl3 Fg3 A1 A2 A3 A4 A5 A6 A7 A8 A9 s A11 A12 A13 A14 A15 A16 A17 A18 A19 := by
      intro d hd
      refine pk_eq w 0 (fun z => ⟨pk_in i 3 hi, hd _ ?_⟩) (fun z => pk_eq (w - 1) i (fun y => hd _ ?_) (fun y => hd _ ?_) (by rw [show (1 : Int32) = nI 1 from rfl, pk_sub (by omega)]))
      · rw [nI_clamp (show i < 2 ^ 31 by omega), fm_nm, if_pos z, ← am_Iof]
      · rw [fm_nm, if_neg z, if_pos y]
        rfl
      · rw [fm_nm, if_neg z, if_neg y]
        rfl
    exact pk_le 3 i (fun z => absurd z (by omega)) (fun _ => br_c (fun d => k170 0 (fun z ez => (k197 z ez).1 d)) (fun d => k170 1 (fun z ez => (k197 z ez).2 d)))
theorem sz_ok {post : St1 → Prop} {Fpr Fwo Frw Ftu : Int32} {Fun : Int64} {Fco Ffw Fwc : Int32} {Fwt Fwb : Int64} {Fln Fem Fhh : Int32} {Fht Fhb : Int64} {Fhl : Int32} {Flt Flb : Int64} {Fbr Fl3 Fg3 : Int32} {A1 A2 A3 A4 A5 A6 A7 A8 A9 : Nat → Int32} {A10 : Nat → Int64} {A11 A12 : Nat → Int32} {A13 A14 A15 A16 A17 : Nat → Int64} {A18 A19 : Nat → Int32} {m : Nat} (hm : m ≤ 13) (hr : Frw = nI m) (hbx : rw_box A5 A6) (hA7 : ∀ j, j < 3 → (A7 j).toInt.natAbs ≤ 7)
    (H : ∀ (s : Nat → Int64) (b11 b12 : Nat → Int32), (∀ r c, r < m → c < 5 → s (5 * r + c) = sz_V A8 A9 r c) → (∀ w c, w < 4 → c < 5 → s (5 * (m + w) + c) = sz_W Ftu A5 A6 A7 w c) → (∀ r, r < m → b11 r = nI (3 + r)) → (∀ i, i < 3 → b12 i = nI i) →
      post (Fpr, Fwo, Frw, Ftu, 1, 3, Frw, 4, Fwt, Fwb, Fln, Fem, Fhh, Fht, Fhb, Fhl, Flt, Flb, Fbr, Fl3, Fg3, A1, A2, A3, A4, A5, A6, A7, A8, A9, s, b11, b12, A13, A14, A15, A16, A17, A18, A19)) : wpX_setUp post (Fpr, Fwo, Frw, Ftu, Fun, Fco, Ffw, Fwc, Fwt, Fwb, Fln, Fem, Fhh, Fht, Fhb, Fhl, Flt, Flb, Fbr, Fl3, Fg3, A1, A2, A3, A4, A5, A6, A7, A8, A9, A10, A11, A12, A13, A14, A15, A16, A17, A18, A19) := by
  subst hr
  have nar : ∀ n : Nat, n < 100 → (nI n).toInt8.toInt32 = nI n := by
    intro n hn
    rw [am_nI, am_I8 (by omega) (by omega)]
  refine pk_loop (fun n r (s : (Nat → Int64) × (Nat → Int32)) => wX_setUp_25 post Fpr Fwo (nI m) Ftu 1 3 (nI m) 4 Fwt Fwb Fln Fem Fhh Fht Fhb Fhl Flt Flb Fbr Fl3 Fg3 n (nI r) A1 A2 A3 A4 A5 A6 A7 A8 A9 (s.1) (s.2) A12 A13 A14 A15 A16 A17 A18 A19) (fun i s => (∀ r c, r < i → c < 5 → s.1 (5 * r + c) = sz_V A8 A9 r c) ∧ ∀ r, r < i → s.2 r = nI (3 + r)) m 0 (A10, A11) (by omega) ⟨fun r c hr => absurd hr (by omega), fun r hr => absurd hr (by omega)⟩ ?_ ?_
  · intro n s ⟨h1, h2⟩
    obtain ⟨s, b11⟩ := s
    refine pk_le m m (fun _ => ?_) (fun z => absurd z (by omega))
    refine pk_loop (fun n w (s : Nat → Int64) => wX_setUp_113 post Fpr Fwo (nI m) Ftu 1 3 (nI m) 4 Fwt Fwb Fln Fem Fhh Fht Fhb Fhl Flt Flb Fbr Fl3 Fg3 n (nI w) A1 A2 A3 A4 A5 A6 A7 A8 A9 s b11 A12 A13 A14 A15 A16 A17 A18 A19) (fun i s => (∀ r c, r < m → c < 5 → s (5 * r + c) = sz_V A8 A9 r c) ∧ ∀ w c, w < i → c < 5 → s (5 * (m + w) + c) = sz_W Ftu A5 A6 A7 w c) 4 0 s (by omega) ⟨h1, fun r c hr => absurd hr (by omega)⟩ ?_ ?_
    · intro n s ⟨g1, g2⟩
      refine pk_le 4 4 (fun _ => ?_) (fun z => absurd z (by omega))
      refine pk_loop (fun n i (b12 : Nat → Int32) => wX_setUp_279 post Fpr Fwo (nI m) Ftu 1 3 (nI m) 4 Fwt Fwb Fln Fem Fhh Fht Fhb Fhl Flt Flb Fbr Fl3 Fg3 n (nI i) A1 A2 A3 A4 A5 A6 A7 A8 A9 s b11 b12 A13 A14 A15 A16 A17 A18 A19) (fun i b12 => ∀ j, j < i → b12 j = nI j) 3 0 A12 (by omega) (fun j hj => absurd hj (by omega)) ?_ ?_
      · intro n b12 q
        exact pk_le 3 3 (fun _ => H s b11 b12 g1 g2 h2 q) (fun z => absurd z (by omega))
      · intro n i b12 hi q hk
        refine pk_le 3 i (fun z => absurd z (by omega)) (fun _ => ⟨pk_in i 4 (by omega), nm_r (e' := upd b12 i (nI i)) (by rw [nI_clamp (show i < 2 ^ 31 by omega), nar i (by omega)]) (nm_r (nI_1 i) (hk _ (fun j hj => ?_)))⟩)
        by_cases g : j = i
        · rw [g, pk_us]
        · rw [pk_un g]
          exact q j (by omega)
    · intro n w s hw ⟨g1, g2⟩ hk
      refine pk_le 4 w (fun z => absurd z (by omega)) (fun _ => nm_r (nI_add m w) ⟨ex_in (c := 3) (by omega) (by omega), nm_r (e' := vp_updL s (5 * (m + w) + 3) 0) (by rw [show (3 : Int32) = nI 3 from rfl, ex_cl (by omega) (by omega)]) ⟨ex_in (c := 4) (by omega) (by omega), nm_r (e' := vp_updL (vp_updL s (5 * (m + w) + 3) 0) (5 * (m + w) + 4) 0) (by rw [show (4 : Int32) = nI 4 from rfl, ex_cl (by omega) (by omega)]) ?_⟩⟩)
      refine sz_149 (by omega) hw hbx hA7 ?_ ?_ (fun s' q1 q2 => hk s' ⟨fun r c hr hc => ?_, fun w' c hw' hc => ?_⟩)
      · rw [ex_upd (by omega) (by omega), if_neg (by omega), ex_upd (by omega) (by omega), if_pos ⟨rfl, rfl⟩]
      · rw [ex_upd (by omega) (by omega), if_pos ⟨rfl, rfl⟩]
      · rw [q1 r c (by omega) hc, ex_upd (by omega) hc, if_neg (by omega), ex_upd (by omega) hc, if_neg (by omega)]
        exact g1 r c hr hc
      · by_cases g : w' = w
        · rw [g]
          exact q2 c hc
        · rw [q1 (m + w') c (by omega) hc, ex_upd (by omega) hc, if_neg (by omega), ex_upd (by omega) hc, if_neg (by omega)]
          exact g2 w' c (by omega) hc
  · intro n r s hr ⟨h1, h2⟩ hk
    obtain ⟨s, b11⟩ := s
    refine pk_le m r (fun z => absurd z (by omega)) (fun _ => ⟨pk_in r 16 (by omega), nm_r (e' := upd b11 r (nI (3 + r))) ?_ ?_⟩)
    · rw [nI_clamp (show r < 2 ^ 31 by omega), show (3 : Int32) = nI 3 from rfl, nI_add, nar _ (by omega)]
    · refine sz_45 (by omega) (fun s' q1 q2 => hk (s', upd b11 r (nI (3 + r))) ⟨fun r' c hr' hc => ?_, fun r' hr' => ?_⟩)
      · show s' (5 * r' + c) = _
        by_cases g : r' = r
        · rw [g]
          exact q2 c hc
        · rw [q1 r' c (by omega) hc]
          exact h1 r' c (by omega) hc
      · show upd b11 r (nI (3 + r)) r' = _
        by_cases g : r' = r
        · rw [g, pk_us]
        · rw [pk_un g]
          exact h2 r' (by omega)
end
section
theorem id_D {L : Nat → Nat → Int} (h : ∀ j, j < 4 → L j = la_e j) : la_D L = 1 := by
  rw [la_Dcong (L' := fun j => la_e j) h]
  decide
theorem id_u {L : Nat → Nat → Int} (h : ∀ j, j < 4 → L j = la_e j) : tb_u L = 1 := by
  unfold tb_u
  rw [id_D h]
  decide
theorem id_T {L : Nat → Nat → Int} (h : ∀ j, j < 4 → L j = la_e j) (f : Nat → Int) {j : Nat} (hj : j < 4) : tb_T L f j = -f j := by
  refine (tb_uni (t := fun j => -f j) (by rw [id_D h]; decide) (fun i hi => ?_) hj).symm
  rw [id_u h, h 0 (by decide), h 1 (by decide), h 2 (by decide), h 3 (by decide)]
  have hi' : i = 0 ∨ i = 1 ∨ i = 2 ∨ i = 3 := by omega
  rcases hi' with rfl | rfl | rfl | rfl <;> simp [la_e]
theorem id_R {L : Nat → Nat → Int} (h : ∀ j, j < 4 → L j = la_e j) (f : Nat → Int) : tb_R L f = f 4 := by
  unfold tb_R
  rw [id_u h, h 0 (by decide), h 1 (by decide), h 2 (by decide), h 3 (by decide)]
  simp [la_e]
theorem tb_Tlin (L : Nat → Nat → Int) (f : Nat → Int) (j : Nat) : tb_T L f j = f 0 * tb_T L (la_e 0) j + f 1 * tb_T L (la_e 1) j + f 2 * tb_T L (la_e 2) j + f 3 * tb_T L (la_e 3) j := by
  rw [tb_Te L 0 j (by decide), tb_Te L 1 j (by decide), tb_Te L 2 j (by decide), tb_Te L 3 j (by decide)]
  unfold tb_T la_dot
  grind
/-- the names of m rows -/
def fm_Nm (m : Nat) (n : Nat) : Prop := n < 3 + m ∨ n = 99
def fm_rn (r : Nat) : Nat := 3 + r
def fm_cn (j : Nat) : Nat := if j < 3 then j else 99
theorem fm_n99 (xe : Int) (A8 A9 : Nat → Int32) : fm_nf xe A8 A9 99 = la_e 3 := by
  funext i
  simp [fm_nf]
theorem fm_nam (xe : Int) (A8 A9 : Nat → Int32) {n : Nat} (hn : n < 3) : fm_nf xe A8 A9 n = la_e n := by
  funext i
  unfold fm_nf
  rw [if_neg (by omega), if_pos hn]
theorem fm_nrow (xe : Int) (A8 A9 : Nat → Int32) {r : Nat} (hr : r < 20) (i : Nat) : fm_nf xe A8 A9 (3 + r) i = if i = 4 then (A9 r).toInt else if i = 3 then xe else -(A8 (3 * r + i)).toInt := by
  unfold fm_nf
  rw [if_neg (by omega), if_neg (by omega), show 3 + r - 3 = r by omega]
theorem fm_id (xe : Int) (A8 A9 : Nat → Int32) : ∀ j, j < 4 → ch_L (fm_nf xe A8 A9) fm_cn j = la_e j := by
  intro j hj
  unfold ch_L fm_cn
  by_cases h : j < 3
  · rw [if_pos h, fm_nam _ _ _ h]
  · rw [if_neg h, fm_n99, show j = 3 by omega]
theorem fm_C (xe : Int) (A8 A9 : Nat → Int32) {m : Nat} (hm : m ≤ 13) : ch_C (fm_nf xe A8 A9) m (fm_Nm m) fm_rn fm_cn := by
  refine ⟨by rw [id_D (fm_id xe A8 A9)]; decide, ⟨fun n hn => ?_, fun r r' _ _ h => ?_, fun r j hr hj h => ?_⟩, fun r hr => ?_, fun j hj => ?_⟩
  · rcases hn with h | h
    · rcases Nat.lt_or_ge n 3 with z | z
      · exact Or.inr ⟨n, by omega, by unfold fm_cn; rw [if_pos z]⟩
      · exact Or.inl ⟨n - 3, by omega, by unfold fm_rn; omega⟩
    · exact Or.inr ⟨3, by omega, by rw [h]; rfl⟩
  · unfold fm_rn at h
    omega
  · unfold fm_rn fm_cn at h
    split at h <;> omega
  · unfold fm_Nm fm_rn
    omega
  · unfold fm_Nm fm_cn
    split <;> omega
theorem fm_eb (k i : Nat) : (la_e k i).natAbs ≤ 1 := by
  unfold la_e
  split <;> decide
theorem fm_F {xe : Int} {A8 A9 : Nat → Int32} {m : Nat} (hx : xe.natAbs ≤ 1) (hm : m ≤ 13) (h8 : ∀ j, j < 3 * m → (A8 j).toInt.natAbs ≤ 7) (h9 : ∀ r, r < m → (A9 r).toInt.natAbs ≤ 600) : ∀ n, fm_Nm m n → tx_F (fm_nf xe A8 A9 n) ∧ (n < 16 ∨ n = 99) := by
  intro n hn
  have hn' : n < 16 ∨ n = 99 := by
    unfold fm_Nm at hn
    omega
  refine ⟨?_, hn'⟩
  rcases hn with h | h
  · rcases Nat.lt_or_ge n 3 with z | z
    · rw [fm_nam _ _ _ z]
      exact ⟨fun i _ => by have := fm_eb n i; omega, by have := fm_eb n 4; omega⟩
    · have e : n = 3 + (n - 3) := by omega
      rw [e]
      refine ⟨fun i hi => ?_, ?_⟩
      · rw [fm_nrow _ _ _ (by omega), if_neg (by omega)]
        split
        · omega
        · have := h8 (3 * (n - 3) + i) (by omega)
          omega
      · rw [fm_nrow _ _ _ (by omega), if_pos rfl]
        exact h9 _ (by omega)
  · rw [h, fm_n99]
    exact ⟨fun i _ => by have := fm_eb 3 i; omega, by have := fm_eb 3 4; omega⟩
theorem fm_nmb {A7 : Nat → Int32} (hA7 : ∀ j, j < 3 → (A7 j).toInt.natAbs ≤ 7) (w : Nat) {i : Nat} (hi : i < 3) : (fm_nm A7 w i).natAbs ≤ 7 := by
  unfold fm_nm
  split
  · exact hA7 i hi
  · split <;> decide
theorem fm_wF {F : Int32} {A5 A6 A7 : Nat → Int32} (hbx : rw_box A5 A6) (hA7 : ∀ j, j < 3 → (A7 j).toInt.natAbs ≤ 7) : ∀ w, w < 5 → tx_F (fm_wf F A5 A6 A7 w) := by
  intro w hw
  by_cases h4 : w = 4
  · refine ⟨fun i _ => ?_, ?_⟩
    · unfold fm_wf
      rw [if_pos h4]
      have := fm_eb 3 i
      omega
    · unfold fm_wf
      rw [if_pos h4]
      decide
  · refine ⟨fun i hi => ?_, ?_⟩
    · unfold fm_wf
      rw [if_neg h4, if_neg (by omega)]
      split
      · decide
      · have := fm_nmb hA7 w (show i < 3 by omega)
        rcases rw_sgc F i with e | e <;> rw [e] <;> omega
    · unfold fm_wf
      rw [if_neg h4, if_pos rfl, rw_sum3]
      have a0 := am_abs (fm_nmb hA7 w (show 0 < 3 by decide)) (rw_frb (F := F) hbx (show 0 < 3 by decide))
      have a1 := am_abs (fm_nmb hA7 w (show 1 < 3 by decide)) (rw_frb (F := F) hbx (show 1 < 3 by decide))
      have a2 := am_abs (fm_nmb hA7 w (show 2 < 3 by decide)) (rw_frb (F := F) hbx (show 2 < 3 by decide))
      try dsimp only
      omega
/-- the worths of the search for a point -/
def fm_wl (wf : Nat → Nat → Int) : Nat → Nat → Int := fun w => if w = 0 then wf 4 else fun _ => 0
theorem fm_x1 {A5 A6 A7 b8 b9 : Nat → Int32} {F : Int32} {m : Nat} (hm : m ≤ 13) (h8 : ∀ j, j < 3 * m → (b8 j).toInt.natAbs ≤ 7) (h9 : ∀ r, r < m → (b9 r).toInt.natAbs ≤ 600) (hbx : rw_box A5 A6) (hA7 : ∀ j, j < 3 → (A7 j).toInt.natAbs ≤ 7) :
    cb_ctx (fm_nf 1 b8 b9) (fm_wf F A5 A6 A7) (fm_wl (fm_wf F A5 A6 A7)) m (m + 4) 1 4 (fm_Nm m) :=
  ⟨hm, fm_F (by decide) hm h8 h9, fm_wF hbx hA7, Or.inr ⟨rfl, rfl, by unfold fm_wl; rw [if_pos rfl], fun w hw => by unfold fm_wl; rw [if_neg hw]⟩, Or.inl rfl⟩
theorem fm_x2 {A5 A6 A7 b8 b9 : Nat → Int32} {F : Int32} {m : Nat} (hm : m ≤ 13) (h8 : ∀ j, j < 3 * m → (b8 j).toInt.natAbs ≤ 7) (h9 : ∀ r, r < m → (b9 r).toInt.natAbs ≤ 600) (hbx : rw_box A5 A6) (hA7 : ∀ j, j < 3 → (A7 j).toInt.natAbs ≤ 7) :
    cb_ctx (fm_nf 0 b8 b9) (fm_wf2 F A5 A6 A7) (fm_wf F A5 A6 A7) m m 4 3 (fm_Nm m) := by
  refine ⟨hm, fm_F (by decide) hm h8 h9, fun w hw => ?_, Or.inl ⟨rfl, rfl, fun w hw => by unfold fm_wf2; rw [if_neg (by omega)]⟩, Or.inr ⟨rfl, fun n hn => ?_, fun w => ?_⟩⟩
  · unfold fm_wf2
    split
    · exact ⟨fun _ _ => by simp, by simp⟩
    · exact fm_wF hbx hA7 w hw
  · unfold fm_nf
    rw [if_neg hn]
    split
    · unfold la_e
      rw [if_neg (by omega)]
    · rfl
  · unfold fm_wf2
    split
    · rfl
    · rename_i h
      unfold fm_wf
      rw [if_neg h]
      rfl
/-- what may be asked: the amounts X over q are possible; what they are worth; the best of them -/
def so_F (Fpr Fwo : Int32) (A1 A2 A3 A5 A6 : Nat → Int32) (X : Nat → Int) (q : Int) : Prop :=
  0 < q ∧ (∀ i, i < 3 → (A5 i).toInt * q ≤ X i ∧ X i ≤ (A6 i).toInt * q) ∧ rw_cs Fpr Fwo A1 A2 A3 5 X q
def so_W (A7 : Nat → Int32) (X : Nat → Int) (w : Nat) : Int := fm_nm A7 w 0 * X 0 + fm_nm A7 w 1 * X 1 + fm_nm A7 w 2 * X 2
def so_O (Fpr Fwo : Int32) (A1 A2 A3 A5 A6 A7 : Nat → Int32) (X : Nat → Int) (q : Int) : Prop :=
  so_F Fpr Fwo A1 A2 A3 A5 A6 X q ∧ ∀ X' q', so_F Fpr Fwo A1 A2 A3 A5 A6 X' q' → ¬ lx_N (fun w => so_W A7 X w * q' - so_W A7 X' w * q)
/-- the point of a table for amounts -/
def so_y (F : Int32) (A5 A6 : Nat → Int32) (X : Nat → Int) (q : Int) : Nat → Int := fun i => if i = 4 then q else if i = 3 then 0 else rw_Y F A5 A6 X q i
theorem so_val (f y : Nat → Int) : tb_val f y = f 0 * y 0 + f 1 * y 1 + f 2 * y 2 + f 3 * y 3 + f 4 * y 4 := rfl
theorem so_vale (y : Nat → Int) {i : Nat} (hi : i < 4) : tb_val (la_e i) y = y i := by
  unfold tb_val
  rw [tb_ei i y hi]
  have : la_e i 4 = 0 := by
    unfold la_e
    rw [if_neg (by omega)]
  rw [this]
  omega
theorem so_valr (xe : Int) (A8 A9 : Nat → Int32) (F : Int32) (A5 A6 : Nat → Int32) (X : Nat → Int) (q : Int) {r : Nat} (hr : r < 20) : 0 ≤ tb_val (fm_nf xe A8 A9 (3 + r)) (so_y F A5 A6 X q) ↔ rw_at A8 A9 r (rw_Y F A5 A6 X q) q := by
  rw [so_val, fm_nrow _ _ _ hr, fm_nrow _ _ _ hr, fm_nrow _ _ _ hr, fm_nrow _ _ _ hr, fm_nrow _ _ _ hr]
  unfold rw_at so_y
  simp
  simp only [Int.neg_mul]
  generalize (A8 (3 * r)).toInt * rw_Y F A5 A6 X q 0 = p0
  generalize (A8 (3 * r + 1)).toInt * rw_Y F A5 A6 X q 1 = p1
  generalize (A8 (3 * r + 2)).toInt * rw_Y F A5 A6 X q 2 = p2
  omega
theorem so_ybox {F : Int32} {A5 A6 : Nat → Int32} {X : Nat → Int} {q : Int} {i : Nat} : (0 ≤ rw_Y F A5 A6 X q i ∧ rw_Y F A5 A6 X q i ≤ ((A6 i).toInt - (A5 i).toInt) * q) ↔ ((A5 i).toInt * q ≤ X i ∧ X i ≤ (A6 i).toInt * q) := by
  unfold rw_Y rw_sg rw_fr
  rw [Int.sub_mul]
  split <;> omega
theorem so_names {Fpr Fwo Ftu : Int32} {A1 A2 A3 A5 A6 b8 b9 : Nat → Int32} {m : Nat} (hr : rw_ok Fpr Fwo Ftu A1 A2 A3 A5 A6 m b8 b9) (xe : Int) (X : Nat → Int) (q : Int) (hq : 0 < q) : so_F Fpr Fwo A1 A2 A3 A5 A6 X q ↔ ∀ n, fm_Nm (m + 3) n → 0 ≤ tb_val (fm_nf xe b8 b9 n) (so_y Ftu A5 A6 X q) := by
  obtain ⟨r1, r2, r3, r4, r5, r6⟩ := hr
  have box : ∀ i, i < 3 → (rw_at b8 b9 (m + i) (rw_Y Ftu A5 A6 X q) q ↔ rw_Y Ftu A5 A6 X q i ≤ ((A6 i).toInt - (A5 i).toInt) * q) := by
    intro i hi
    have v0 := r5 i 0 hi (by decide)
    have v1 := r5 i 1 hi (by decide)
    have v2 := r5 i 2 hi (by decide)
    rw [Nat.add_zero] at v0
    unfold rw_at
    rw [v0, v1, v2, r6 i hi]
    have hi' : i = 0 ∨ i = 1 ∨ i = 2 := by omega
    rcases hi' with rfl | rfl | rfl <;> simp
  constructor
  · intro ⟨_, hb, hc⟩ n hn
    rcases hn with h | h
    · rcases Nat.lt_or_ge n 3 with z | z
      · rw [fm_nam _ _ _ z, so_vale _ (by omega)]
        unfold so_y
        rw [if_neg (by omega), if_neg (by omega)]
        exact ((so_ybox (F := Ftu)).mpr (hb n z)).1
      · rw [show n = 3 + (n - 3) by omega, so_valr xe b8 b9 Ftu A5 A6 X q (by omega)]
        rcases Nat.lt_or_ge (n - 3) m with y | y
        · exact (r4 X q).mpr hc _ y
        · have := (box (n - 3 - m) (by omega)).mpr ((so_ybox (F := Ftu)).mpr (hb (n - 3 - m) (by omega))).2
          rw [show m + (n - 3 - m) = n - 3 by omega] at this
          exact this
    · rw [h, fm_n99, so_vale _ (by decide)]
      exact Int.le_refl 0
  · intro h
    refine ⟨hq, fun i hi => ?_, (r4 X q).mp (fun r hr' => ?_)⟩
    · refine (so_ybox (F := Ftu)).mp ⟨?_, ?_⟩
      · have := h i (Or.inl (by omega))
        rw [fm_nam _ _ _ hi, so_vale _ (by omega)] at this
        unfold so_y at this
        rw [if_neg (by omega), if_neg (by omega)] at this
        exact this
      · have := h (3 + (m + i)) (Or.inl (by omega))
        rw [so_valr xe b8 b9 Ftu A5 A6 X q (by omega)] at this
        exact (box i hi).mp this
    · have := h (3 + r) (Or.inl (by omega))
      rw [so_valr xe b8 b9 Ftu A5 A6 X q (by omega)] at this
      exact this
theorem so_wval (F : Int32) (A5 A6 A7 : Nat → Int32) (X : Nat → Int) (q : Int) {w : Nat} (hw : w < 4) : tb_val (fm_wf F A5 A6 A7 w) (so_y F A5 A6 X q) = so_W A7 X w := by
  rw [so_val]
  unfold fm_wf so_y so_W
  have hw4 : ¬ w = 4 := by omega
  simp only [hw4, if_false, rw_sum3]
  simp
  unfold rw_Y
  have s0 := rw_sg2 F 0
  have s1 := rw_sg2 F 1
  have s2 := rw_sg2 F 2
  generalize rw_sg F 0 = g0 at *
  generalize rw_sg F 1 = g1 at *
  generalize rw_sg F 2 = g2 at *
  generalize rw_fr F A5 A6 0 = r0 at *
  generalize rw_fr F A5 A6 1 = r1 at *
  generalize rw_fr F A5 A6 2 = r2 at *
  generalize fm_nm A7 w 0 = n0 at *
  generalize fm_nm A7 w 1 = n1 at *
  generalize fm_nm A7 w 2 = n2 at *
  have e : g0 * n0 * (g0 * (X 0 - r0 * q)) + g1 * n1 * (g1 * (X 1 - r1 * q)) + g2 * n2 * (g2 * (X 2 - r2 * q)) = (g0 * g0) * (n0 * (X 0 - r0 * q)) + (g1 * g1) * (n1 * (X 1 - r1 * q)) + (g2 * g2) * (n2 * (X 2 - r2 * q)) := by grind
  rw [e, s0, s1, s2]
  grind
/-- the amounts at the corner of a table -/
def so_X (F : Int32) (A5 A6 : Nat → Int32) (L : Nat → Nat → Int) : Nat → Int := fun i => rw_fr F A5 A6 i * tb_u L + rw_sg F i * tb_R L (la_e i)
theorem so_corner (F : Int32) (A5 A6 : Nat → Int32) {L : Nat → Nat → Int} (h3 : L 3 = la_e 3) (f : Nat → Int) : tb_val f (so_y F A5 A6 (so_X F A5 A6 L) (tb_u L)) = tb_R L f := by
  rw [← tb_vxval L f, so_val, so_val]
  have y : ∀ i, i < 3 → so_y F A5 A6 (so_X F A5 A6 L) (tb_u L) i = tb_vx L i := by
    intro i hi
    unfold so_y tb_vx
    rw [if_neg (by omega), if_neg (by omega), if_neg (by omega)]
    show rw_sg F i * ((rw_fr F A5 A6 i * tb_u L + rw_sg F i * tb_R L (la_e i)) - rw_fr F A5 A6 i * tb_u L) = tb_R L (la_e i)
    have := rw_sg2 F i
    generalize rw_sg F i = g at *
    have e : g * (rw_fr F A5 A6 i * tb_u L + g * tb_R L (la_e i) - rw_fr F A5 A6 i * tb_u L) = (g * g) * tb_R L (la_e i) := by grind
    rw [e, this, Int.one_mul]
  have y3 : tb_vx L 3 = 0 := by
    have := tb_ownR L (show 3 < 4 by decide)
    rw [h3] at this
    exact this
  rw [y 0 (by decide), y 1 (by decide), y 2 (by decide), y3, tb_vx4]
  simp [so_y]
theorem so_best {Fpr Fwo Ftu : Int32} {A1 A2 A3 A5 A6 A7 b8 b9 : Nat → Int32} {m : Nat} (hr : rw_ok Fpr Fwo Ftu A1 A2 A3 A5 A6 m b8 b9) {rn cn : Nat → Nat} (h3 : cn 3 = 99) (hV : bl_V (fm_nf 0 b8 b9) (m + 3) (fm_Nm (m + 3)) rn cn)
    (hT : ∀ j, j < 4 → ¬ lx_N (fun w => tb_T (ch_L (fm_nf 0 b8 b9) cn) (fm_wf Ftu A5 A6 A7 w) j)) :
    so_O Fpr Fwo A1 A2 A3 A5 A6 A7 (so_X Ftu A5 A6 (ch_L (fm_nf 0 b8 b9) cn)) (tb_u (ch_L (fm_nf 0 b8 b9) cn)) ∧ tb_R (ch_L (fm_nf 0 b8 b9) cn) (fm_wf Ftu A5 A6 A7 0) = so_W A7 (so_X Ftu A5 A6 (ch_L (fm_nf 0 b8 b9) cn)) 0 := by
  have e3 : ch_L (fm_nf 0 b8 b9) cn 3 = la_e 3 := by
    unfold ch_L
    rw [h3, fm_n99]
  have up := tb_upos hV.1.1
  have W : ∀ w, w < 4 → tb_R (ch_L (fm_nf 0 b8 b9) cn) (fm_wf Ftu A5 A6 A7 w) = so_W A7 (so_X Ftu A5 A6 (ch_L (fm_nf 0 b8 b9) cn)) w := by
    intro w hw
    rw [← so_corner Ftu A5 A6 e3, so_wval _ _ _ _ _ _ hw]
  refine ⟨⟨?_, ?_⟩, W 0 (by decide)⟩
  · rw [so_names hr 0 _ _ up]
    intro n hn
    rw [so_corner Ftu A5 A6 e3, ← tb_vxval]
    exact oq_vx hV hn
  · intro X' q' hF
    have hN := (so_names hr 0 X' q' hF.1).mp hF
    have O := oq_opt hT (y := so_y Ftu A5 A6 X' q') (fun j hj => hN _ (hV.1.2.2.2 j hj))
    rw [lx_eq (c := fun w => so_W A7 (so_X Ftu A5 A6 (ch_L (fm_nf 0 b8 b9) cn)) w * q' - so_W A7 X' w * tb_u (ch_L (fm_nf 0 b8 b9) cn)) (a := fun w => tb_R (ch_L (fm_nf 0 b8 b9) cn) (fm_wf Ftu A5 A6 A7 w) * so_y Ftu A5 A6 X' q' 4 - tb_u (ch_L (fm_nf 0 b8 b9) cn) * tb_val (fm_wf Ftu A5 A6 A7 w) (so_y Ftu A5 A6 X' q')) (by
      intro w hw
      try dsimp only
      rw [W w hw, so_wval _ _ _ _ _ _ hw, show so_y Ftu A5 A6 X' q' 4 = q' from rfl, Int.mul_comm (so_W A7 X' w)])]
    exact O
/-- a column of three all zero is none -/
theorem so_col {L : Nat → Nat → Int} (hD : la_D L ≠ 0) (h3 : L 3 = la_e 3) {e : Nat} (he : e < 3) (h : ∀ i, i < 3 → tb_T L (la_e i) e = 0) : False := by
  have t3 : tb_T L (la_e 3) e = 0 := by
    rw [← h3]
    exact tb_own0 L (by decide) (by omega) (by omega)
  have o := tb_own1 L (show e < 4 by omega)
  rw [tb_Tlin, h 0 (by decide), h 1 (by decide), h 2 (by decide), t3] at o
  have := tb_upos hD
  omega
/-- every column is stopped: the amounts have upper bounds -/
theorem so_stop {Fpr Fwo Ftu : Int32} {A1 A2 A3 A5 A6 b8 b9 : Nat → Int32} {m : Nat} (hr : rw_ok Fpr Fwo Ftu A1 A2 A3 A5 A6 m b8 b9) {rn cn : Nat → Nat} (h3 : cn 3 = 99) (hV : bl_V (fm_nf 0 b8 b9) (m + 3) (fm_Nm (m + 3)) rn cn) {e : Nat} (he : e < 3)
    (h : ∀ r, r < m + 3 → tb_T (ch_L (fm_nf 0 b8 b9) cn) (fm_nf 0 b8 b9 (rn r)) e ≤ 0) : False := by
  have e3 : ch_L (fm_nf 0 b8 b9) cn 3 = la_e 3 := by
    unfold ch_L
    rw [h3, fm_n99]
  have up := tb_upos hV.1.1
  have all : ∀ n, fm_Nm (m + 3) n → tb_T (ch_L (fm_nf 0 b8 b9) cn) (fm_nf 0 b8 b9 n) e ≤ 0 := by
    intro n hn
    rcases hV.1.2.1.1 n hn with ⟨r, hr', er⟩ | ⟨j, hj, ej⟩
    · rw [← er]
      exact h r hr'
    · rw [← ej]
      rcases Nat.decEq j e with z | z
      · have o : tb_T (ch_L (fm_nf 0 b8 b9) cn) (fm_nf 0 b8 b9 (cn j)) e = 0 := tb_own0 (ch_L (fm_nf 0 b8 b9) cn) hj (by omega) z
        omega
      · have o : tb_T (ch_L (fm_nf 0 b8 b9) cn) (fm_nf 0 b8 b9 (cn e)) e = -tb_u (ch_L (fm_nf 0 b8 b9) cn) := tb_own1 (ch_L (fm_nf 0 b8 b9) cn) (by omega)
        rw [z]
        omega
  obtain ⟨r1, r2, r3, r4, r5, r6⟩ := hr
  refine so_col hV.1.1 e3 he (fun i hi => ?_)
  have a := all i (Or.inl (by omega))
  rw [fm_nam _ _ _ hi] at a
  have b := all (3 + (m + i)) (Or.inl (by omega))
  rw [tb_Tlin, fm_nrow _ _ _ (by omega), fm_nrow _ _ _ (by omega), fm_nrow _ _ _ (by omega), fm_nrow _ _ _ (by omega)] at b
  have v0 := r5 i 0 hi (by decide)
  have v1 := r5 i 1 hi (by decide)
  have v2 := r5 i 2 hi (by decide)
  simp at b v0
  rw [v0, v1, v2] at b
  have hi' : i = 0 ∨ i = 1 ∨ i = 2 := by omega
  rcases hi' with rfl | rfl | rfl <;> simp at b <;> omega
end
section
theorem fm_pic2 {Ftu : Int32} {A5 A6 A7 b8 b9 b11 b12 : Nat → Int32} {s : Nat → Int64} {m : Nat} (hm : m ≤ 13) (h1 : ∀ r c, r < m → c < 5 → s (5 * r + c) = sz_V b8 b9 r c) (h2 : ∀ w c, w < 4 → c < 5 → s (5 * (m + w) + c) = sz_W Ftu A5 A6 A7 w c) (h3 : ∀ r, r < m → b11 r = nI (3 + r)) (h4 : ∀ i, i < 3 → b12 i = nI i) :
    cb_pic (fm_nf 0 b8 b9) (fm_wf2 Ftu A5 A6 A7) m (m + 4) 3 fm_rn fm_cn 1 s b11 b12 := by
  have I := fm_id 0 b8 b9
  refine ⟨by rw [id_u I]; rfl, fun r hr => ?_, h3, fun j hj => ?_, fun _ => ⟨rfl, fun j hj => ?_, fun r hr => ?_⟩⟩
  · rcases Nat.lt_or_ge r m with z | z
    · rw [cb_rf1 z]
      refine ⟨fun j hj => ?_, ?_⟩
      · rw [h1 r j z (by omega), id_T I _ hj]
        show _ = am_L (-(fm_nf 0 b8 b9 (3 + r) j))
        rw [fm_nrow _ _ _ (by omega), if_neg (by omega), sz_V]
        by_cases q : j < 3
        · rw [if_pos q, if_neg (by omega)]
          congr 1
          omega
        · rw [if_neg q, if_pos (by omega), if_pos (by omega)]
          rfl
      · rw [h1 r 4 z (by omega), id_R I]
        show _ = am_L (fm_nf 0 b8 b9 (3 + r) 4)
        rw [fm_nrow _ _ _ (by omega), if_pos rfl]
        rfl
    · obtain ⟨w, rfl⟩ : ∃ w, r = m + w := ⟨r - m, by omega⟩
      rw [cb_rf2, fm_wf2, if_neg (show ¬ w = 4 by omega)]
      refine ⟨fun j hj => ?_, ?_⟩
      · rw [h2 w j (by omega) (by omega), id_T I _ hj, sz_W, fm_wf, if_neg (show ¬ w = 4 by omega), if_neg (show ¬ j = 4 by omega)]
        by_cases q : j < 3
        · rw [if_pos q, if_neg (show ¬ j = 3 by omega)]
        · rw [if_neg q, if_pos (show j = 3 by omega), if_pos (show j = 3 by omega)]
          rfl
      · rw [h2 w 4 (by omega) (by omega), id_R I, sz_W, fm_wf, if_neg (show ¬ w = 4 by omega), if_pos rfl]
        rfl
  · rw [h4 j hj]
    unfold fm_cn
    rw [if_pos hj]
  · unfold fm_cn
    rw [if_pos hj]
    omega
  · unfold fm_rn
    omega
theorem fm_pic1 {Ftu : Int32} {A5 A6 A7 b8 b9 b11 b12 : Nat → Int32} {s t : Nat → Int64} {m : Nat} (hm : m ≤ 13) (h1 : ∀ r c, r < m → c < 5 → s (5 * r + c) = sz_V b8 b9 r c) (h2 : ∀ w c, w < 4 → c < 5 → s (5 * (m + w) + c) = sz_W Ftu A5 A6 A7 w c) (h3 : ∀ r, r < m → b11 r = nI (3 + r)) (h4 : ∀ i, i < 3 → b12 i = nI i)
    (t1 : ∀ r c, r < m + 4 → c < 5 → t (5 * r + c) = if r < m ∧ c = 3 then -1 else s (5 * r + c)) (t2 : ∀ c, c < 5 → t (5 * (m + 4) + c) = if c = 3 then 1 else 0) :
    cb_pic (fm_nf 1 b8 b9) (fm_wf Ftu A5 A6 A7) m (m + 4 + 1) 4 fm_rn fm_cn 1 t b11 (upd b12 3 99) := by
  have I := fm_id 1 b8 b9
  refine ⟨by rw [id_u I]; rfl, fun r hr => ?_, h3, fun j hj => ?_, fun h => absurd h (by omega)⟩
  · rcases Nat.lt_or_ge r m with z | z
    · rw [cb_rf1 z]
      refine ⟨fun j hj => ?_, ?_⟩
      · rw [t1 r j (by omega) (by omega), id_T I _ hj]
        show _ = am_L (-(fm_nf 1 b8 b9 (3 + r) j))
        rw [fm_nrow _ _ _ (by omega), if_neg (show ¬ j = 4 by omega)]
        by_cases q : j < 3
        · rw [if_neg (show ¬ (r < m ∧ j = 3) by omega), h1 r j z (by omega), sz_V, if_pos q, if_neg (show ¬ j = 3 by omega)]
          congr 1
          omega
        · rw [if_pos (show r < m ∧ j = 3 by omega), if_pos (show j = 3 by omega)]
          rfl
      · rw [t1 r 4 (by omega) (by omega), if_neg (by omega), h1 r 4 z (by omega), id_R I]
        show _ = am_L (fm_nf 1 b8 b9 (3 + r) 4)
        rw [fm_nrow _ _ _ (by omega), if_pos rfl]
        rfl
    · rcases Nat.lt_or_ge r (m + 4) with y | y
      · obtain ⟨w, rfl⟩ : ∃ w, r = m + w := ⟨r - m, by omega⟩
        rw [cb_rf2]
        refine ⟨fun j hj => ?_, ?_⟩
        · rw [t1 _ j y (by omega), if_neg (by omega), h2 w j (by omega) (by omega), id_T I _ hj, sz_W, fm_wf, if_neg (show ¬ w = 4 by omega), if_neg (show ¬ j = 4 by omega)]
          by_cases q : j < 3
          · rw [if_pos q, if_neg (show ¬ j = 3 by omega)]
          · rw [if_neg q, if_pos (show j = 3 by omega), if_pos (show j = 3 by omega)]
            rfl
        · rw [t1 _ 4 y (by omega), if_neg (by omega), h2 w 4 (by omega) (by omega), id_R I, sz_W, fm_wf, if_neg (show ¬ w = 4 by omega), if_pos rfl]
          rfl
      · have e : r = m + 4 := by omega
        rw [e, cb_rf2]
        refine ⟨fun j hj => ?_, ?_⟩
        · rw [t2 j (by omega), id_T I _ hj, fm_wf, if_pos rfl, la_e]
          split <;> rfl
        · rw [t2 4 (by omega), id_R I, fm_wf, if_pos rfl]
          rfl
  · unfold fm_cn
    by_cases q : j < 3
    · rw [if_pos q, pk_un (by omega)]
      exact h4 j q
    · rw [if_neg q, show j = 3 by omega, pk_us]
      rfl
/-- the first exchange: the lowest row takes the additional variable -/
theorem fm_first {b8 b9 : Nat → Int32} {m l : Nat} (hm : m ≤ 13) (hl : l < m) (h : (b9 l).toInt < 0) (hmin : ∀ r, r < m → (b9 l).toInt ≤ (b9 r).toInt) : tb_T (ch_L (fm_nf 1 b8 b9) fm_cn) (fm_nf 1 b8 b9 (fm_rn l)) 3 ≠ 0 ∧ bl_V (fm_nf 1 b8 b9) m (fm_Nm m) (ch_sw fm_rn l (fm_cn 3)) (ch_sw fm_cn 3 (fm_rn l)) := by
  have I := fm_id 1 b8 b9
  have p : tb_T (ch_L (fm_nf 1 b8 b9) fm_cn) (fm_nf 1 b8 b9 (fm_rn l)) 3 = -1 := by
    rw [id_T I _ (by decide)]
    unfold fm_rn
    rw [fm_nrow _ _ _ (by omega)]
    rfl
  have pn : tb_T (ch_L (fm_nf 1 b8 b9) fm_cn) (fm_nf 1 b8 b9 (fm_rn l)) 3 ≠ 0 := by
    rw [p]
    decide
  refine ⟨pn, ch_Cnext (fm_C 1 b8 b9 hm) hl (by decide) pn, fun r hr => ?_⟩
  rw [ch_Lsw]
  have q := tb_pR (fm_nf 1 b8 b9 (ch_sw fm_rn l (fm_cn 3) r)) (show 3 < 4 by decide) pn
  rw [p, id_u I, id_R I, id_R I, id_T I _ (by decide)] at q
  have g4 : fm_nf 1 b8 b9 (fm_rn l) 4 = (b9 l).toInt := by
    unfold fm_rn
    rw [fm_nrow _ _ _ (by omega), if_pos rfl]
  rw [g4, show tb_s (-1) = -1 from rfl] at q
  rcases Nat.decEq r l with z | z
  · rw [ch_swn _ _ z] at q ⊢
    have f4 : fm_nf 1 b8 b9 (fm_rn r) 4 = (b9 r).toInt := by
      unfold fm_rn
      rw [fm_nrow _ _ _ (by omega), if_pos rfl]
    have f3 : fm_nf 1 b8 b9 (fm_rn r) 3 = 1 := by
      unfold fm_rn
      rw [fm_nrow _ _ _ (by omega)]
      rfl
    rw [f4, f3] at q
    have := hmin r hr
    omega
  · rw [z, ch_sws] at q ⊢
    rw [show fm_cn 3 = 99 from rfl, fm_n99] at q ⊢
    rw [show la_e 3 4 = 0 from rfl, show la_e 3 3 = 1 from rfl] at q
    omega
theorem wk_lowest {post : Int32 → Prop} {Fpr Fwo Frw Ftu : Int32} {Fun : Int64} {Fco Ffw Fwc : Int32} {Fwt Fwb : Int64} {Fln Fem Fhh : Int32} {Fht Fhb : Int64} {Fhl : Int32} {Flt Flb : Int64} {Fbr Fl3 Fg3 : Int32} {A1 A2 A3 A4 A5 A6 A7 A8 A9 : Nat → Int32} {A10 : Nat → Int64} {A11 A12 : Nat → Int32} {A13 A14 A15 A16 A17 : Nat → Int64} {A18 A19 : Nat → Int32} {m : Nat} {R : Nat → Int} (hm : Frw = nI m) (h1 : 1 ≤ m) (hm16 : m ≤ 16) (hR : ∀ r, r < m → A10 (5 * r + 4) = am_L (R r) ∧ (R r).natAbs ≤ 172872000) (H : ∀ l, l < m → (∀ r, r < m → R l ≤ R r) → post (nI l)) : wpX_lowestRow post (Fpr, Fwo, Frw, Ftu, Fun, Fco, Ffw, Fwc, Fwt, Fwb, Fln, Fem, Fhh, Fht, Fhb, Fhl, Flt, Flb, Fbr, Fl3, Fg3, A1, A2, A3, A4, A5, A6, A7, A8, A9, A10, A11, A12, A13, A14, A15, A16, A17, A18, A19) := by
  subst hm
  refine pk_loop (fun n i (s : Int32) => wX_lowestRow_4 post Fpr Fwo (nI m) Ftu Fun Fco Ffw Fwc Fwt Fwb Fln Fem Fhh Fht Fhb Fhl Flt Flb Fbr Fl3 Fg3 A1 A2 A3 A4 A5 A6 A7 A8 A9 A10 A11 A12 A13 A14 A15 A16 A17 A18 A19 n s (nI i)) (fun i s => ∃ b, b < i ∧ s = nI b ∧ ∀ r, r < i → R b ≤ R r) m 1 (nI 0) h1 ⟨0, by omega, rfl, fun r hr => by rw [show r = 0 by omega]; exact Int.le_refl _⟩ ?_ ?_
  · intro n s ⟨b, hb, es, hq⟩
    rw [es]
    exact pk_le m m (fun _ => H b hb hq) (fun z => absurd z (by omega))
  · intro n i s hi ⟨b, hb, es, hq⟩ hk
    rw [es]
    obtain ⟨e1, b1⟩ := hR i hi
    obtain ⟨e2, b2⟩ := hR b (by omega)
    refine pk_le m i (fun z => absurd z (by omega)) (fun _ => ex_cellx rfl rfl (show i < 21 by omega) (show 4 < 5 by omega) (ex_cellx rfl rfl (show b < 21 by omega) (show 4 < 5 by omega) ?_))
    rw [e1, e2]
    refine ek_if (am_Lle (am_Rabs b2 (by omega)) (am_Rabs b1 (by omega))) (fun z => nm_r (nI_1 i) (hk (nI b) ⟨b, by omega, rfl, lt_s hq z⟩)) (fun z => nm_r (nI_1 i) (hk (nI i) ⟨i, by omega, rfl, lt_s (fun r hr => ?_) (Int.le_refl _)⟩))
    have := hq r hr
    omega
theorem wk_close {post : St1 → Prop} {Fpr Fwo Frw Ftu : Int32} {Fun : Int64} {Fco Ffw Fwc : Int32} {Fwt Fwb : Int64} {Fln Fem Fhh : Int32} {Fht Fhb : Int64} {Fhl : Int32} {Flt Flb : Int64} {Fbr Fl3 Fg3 : Int32} {A1 A2 A3 A4 A5 A6 A7 A8 A9 : Nat → Int32} {A10 : Nat → Int64} {A11 A12 : Nat → Int32} {A13 A14 A15 A16 A17 : Nat → Int64} {A18 A19 : Nat → Int32} {m k : Nat} (hm : Frw = nI m) (hm13 : m ≤ 13) (hk : k < 4) (H : ∀ s : Nat → Int64, (∀ r c, r < m + 4 → c < 5 → s (5 * r + c) = if c = 3 then 0 else if c = k then A10 (5 * r + 3) else A10 (5 * r + c)) → post (Fpr, Fwo, Frw, Ftu, Fun, 3, Ffw, Fwc, Fwt, Fwb, Fln, Fem, Fhh, Fht, Fhb, Fhl, Flt, Flb, Fbr, Fl3, Fg3, A1, A2, A3, A4, A5, A6, A7, A8, A9, s, A11, (upd A12 k (vp_nar .byte (A12 3))), A13, A14, A15, A16, A17, A18, A19)) : wpX_closeColumn post (Fpr, Fwo, Frw, Ftu, Fun, Fco, Ffw, Fwc, Fwt, Fwb, Fln, Fem, Fhh, Fht, Fhb, Fhl, Flt, Flb, Fbr, Fl3, Fg3, A1, A2, A3, A4, A5, A6, A7, A8, A9, A10, A11, A12, A13, A14, A15, A16, A17, A18, A19) (nI k) := by
  subst hm
  have e4 : nI m + 4 = nI (m + 4) := nI_add m 4
  refine pk_loop (fun n i (s : Nat → Int64) => wX_closeColumn_2 post (nI k) Fpr Fwo (nI m) Ftu Fun Fco Ffw Fwc Fwt Fwb Fln Fem Fhh Fht Fhb Fhl Flt Flb Fbr Fl3 Fg3 n (nI i) A1 A2 A3 A4 A5 A6 A7 A8 A9 s A11 A12 A13 A14 A15 A16 A17 A18 A19) (fun i s => ∀ r c, c < 5 → s (5 * r + c) = if r < i then (if c = 3 then 0 else if c = k then A10 (5 * r + 3) else A10 (5 * r + c)) else A10 (5 * r + c)) (m + 4) 0 A10 (by omega) (fun r c hc => by rw [if_neg (by omega)]) ?_ ?_
  · intro n s h
    refine pk_le (m + 4) (m + 4) (fun _ => ⟨pk_in k 4 hk, nm_r (by rw [nI_clamp (show k < 2 ^ 31 by omega)]) (H s (fun r c hr hc => ?_))⟩) (fun z => absurd z (by omega)) e4
    rw [h r c hc, if_pos hr]
  · intro n i s hi h hn
    refine pk_le (m + 4) i (fun z => absurd z (by omega)) (fun _ => ex_cellx rfl rfl (show i < 21 by omega) (show 3 < 5 by omega) ⟨ex_in (by omega) (by omega), nm_r (e' := vp_updL s (5 * i + k) (s (5 * i + 3))) (by rw [ex_cl (by omega) (by omega)]) ⟨ex_in (c := 3) (by omega) (by omega), nm_r (e' := vp_updL (vp_updL s (5 * i + k) (s (5 * i + 3))) (5 * i + 3) 0) (by rw [show (3 : Int32) = nI 3 from rfl, ex_cl (by omega) (by omega)]) (nm_r (nI_1 i) (hn _ (fun r c hc => ?_)))⟩⟩) e4
    rw [ex_upd (by omega) hc, ex_upd (by omega) hc, h i 3 (by omega), if_neg (show ¬ i < i by omega), h r c hc]
    by_cases g : r = i
    · rw [g]
      by_cases g3 : c = 3
      · rw [if_pos ⟨rfl, g3⟩, if_pos (by omega), if_pos g3]
      · rw [if_neg (fun z => g3 z.2)]
        by_cases gk : c = k
        · rw [if_pos ⟨rfl, gk⟩, if_pos (by omega), if_neg g3, if_pos gk]
        · rw [if_neg (fun z => gk z.2), if_neg (by omega), if_pos (by omega), if_neg g3, if_neg gk]
    · rw [if_neg (fun z => g z.1), if_neg (fun z => g z.1)]
      by_cases gl : r < i
      · rw [if_pos gl, if_pos (show r < i + 1 by omega)]
      · rw [if_neg gl, if_neg (show ¬ r < i + 1 by omega)]
theorem wk_drop {post : Int32 → St1 → Prop} {Fpr Fwo Frw Ftu : Int32} {Fun : Int64} {Fco Ffw Fwc : Int32} {Fwt Fwb : Int64} {Fln Fem Fhh : Int32} {Fht Fhb : Int64} {Fhl : Int32} {Flt Flb : Int64} {Fbr Fl3 Fg3 : Int32} {A1 A2 A3 A4 A5 A6 A7 A8 A9 : Nat → Int32} {A10 : Nat → Int64} {A11 A12 : Nat → Int32} {A13 A14 A15 A16 A17 : Nat → Int64} {A18 A19 : Nat → Int32} {nf wf wl : Nat → Nat → Int} {m fw wc : Nat} {Nm : Nat → Prop} {rn cn : Nat → Nat} (hx : cb_ctx nf wf wl m fw wc 4 Nm) (hp : cb_pic nf wf m (fw + wc) 4 rn cn Fun A10 A11 A12) (hV : bl_V nf m Nm rn cn) (hm : Frw = nI m) (hfw : Ffw = nI fw) (hwc : Fwc = nI wc) (hco : Fco = nI 4) (h99 : Nm 99) (hn99 : nf 99 = la_e 3)
    (H : ∀ k rn' cn' un s b11 b12, k < 4 → cb_pic nf wf m (fw + wc) 4 rn' cn' un s b11 b12 → ch_C nf m Nm rn' cn' → cn' k = 99 → (tb_R (ch_L nf cn) (nf 99) = 0 → bl_V nf m Nm rn' cn') → post (nI k) (Fpr, Fwo, Frw, Ftu, un, Fco, Ffw, Fwc, Fwt, Fwb, Fln, Fem, Fhh, Fht, Fhb, Fhl, Flt, Flb, Fbr, Fl3, Fg3, A1, A2, A3, A4, A5, A6, A7, A8, A9, s, b11, b12, A13, A14, A15, A16, A17, A18, A19)) : wpX_dropExtra post (Fpr, Fwo, Frw, Ftu, Fun, Fco, Ffw, Fwc, Fwt, Fwb, Fln, Fem, Fhh, Fht, Fhb, Fhl, Flt, Flb, Fbr, Fl3, Fg3, A1, A2, A3, A4, A5, A6, A7, A8, A9, A10, A11, A12, A13, A14, A15, A16, A17, A18, A19) := by
  obtain ⟨x1, x2, x3, x4, x5⟩ := id hx
  obtain ⟨p1, p2, p3, p4, p5⟩ := id hp
  obtain ⟨⟨c1, c2, c3, c4⟩, cR⟩ := id hV
  have bn : ∀ n, Nm n → n < 100 := fun n hn => by
    have := (x2 n hn).2
    omega
  have tF : ∀ j, j < 4 → tx_F (ch_L nf cn j) := fun j hj => (x2 _ (c4 j hj)).1
  subst hco
  have e3 : nI 4 - 1 = nI 3 := rfl
  refine pk_loop (σ := Unit) (fun n r _ => wX_dropExtra_2 post Fpr Fwo Frw Ftu Fun (nI 4) Ffw Fwc Fwt Fwb Fln Fem Fhh Fht Fhb Fhl Flt Flb Fbr Fl3 Fg3 A1 A2 A3 A4 A5 A6 A7 A8 A9 A10 A11 A12 A13 A14 A15 A16 A17 A18 A19 n (nI r)) (fun r _ => ∀ r', r' < r → rn r' ≠ 99) m 0 () (by omega) (fun r' hr' => absurd hr' (by omega)) ?_ ?_
  · intro n _ h
    refine pk_le m m (fun _ => ?_) (fun z => absurd z (by omega)) (by rw [hm])
    have inC : ∃ j, j < 4 ∧ cn j = 99 := by
      rcases c2.1 99 h99 with ⟨r, hr, er⟩ | q
      · exact absurd er (h r hr)
      · exact q
    refine pk_loop (σ := Unit) (fun n c _ => wX_dropExtra_66 post Fpr Fwo Frw Ftu Fun (nI 4) Ffw Fwc Fwt Fwb Fln Fem Fhh Fht Fhb Fhl Flt Flb Fbr Fl3 Fg3 A1 A2 A3 A4 A5 A6 A7 A8 A9 A10 A11 A12 A13 A14 A15 A16 A17 A18 A19 n (nI c)) (fun c _ => ∀ c', c' < c → cn c' ≠ 99) 3 0 () (by omega) (fun r' hr' => absurd hr' (by omega)) ?_ ?_
    · intro n _ hc
      refine pk_le 3 3 (fun _ => H 3 rn cn Fun A10 A11 A12 (by omega) hp ⟨c1, c2, c3, c4⟩ ?_ (fun _ => hV)) (fun z => absurd z (by omega)) e3
      obtain ⟨j, hj, ej⟩ := inC
      rcases Nat.lt_or_ge j 3 with y | y
      · exact absurd ej (hc j y)
      · rw [show j = 3 by omega] at ej
        exact ej
    · intro n c _ hc h' hk
      refine pk_le 3 c (fun z => absurd z (by omega)) (fun _ => ⟨pk_in c 4 (by omega), ?_⟩) e3
      rw [nI_clamp (show c < 2 ^ 31 by omega), p4 c (by omega)]
      have := bn _ (c4 c (by omega))
      exact pk_eq (cn c) 99 (fun z => H c rn cn Fun A10 A11 A12 (by omega) hp ⟨c1, c2, c3, c4⟩ z (fun _ => hV)) (fun z => nm_r (nI_1 c) (hk () (lt_s h' z)))
  · intro n r _ hr h hk
    refine pk_le m r (fun z => absurd z (by omega)) (fun _ => ⟨pk_in r 16 (by omega), ?_⟩) (by rw [hm])
    rw [nI_clamp (show r < 2 ^ 31 by omega), p3 r hr]
    have br' := bn _ (c3 r hr)
    refine pk_eq (rn r) 99 (fun z => ?_) (fun z => nm_r (nI_1 r) (hk () (lt_s h z)))
    have er : nf (rn r) = nf 99 := by rw [z]
    have go : ∀ c, c < 4 → tb_T (ch_L nf cn) (nf (rn r)) c ≠ 0 → wX_dropExtra_50 post (nI r) (nI c) Fpr Fwo Frw Ftu Fun (nI 4) Ffw Fwc Fwt Fwb Fln Fem Fhh Fht Fhb Fhl Flt Flb Fbr Fl3 Fg3 A1 A2 A3 A4 A5 A6 A7 A8 A9 A10 A11 A12 A13 A14 A15 A16 A17 A18 A19 := by
      intro c hc hT
      unfold wX_dropExtra_50
      refine cb_exchange hx hp ⟨c1, c2, c3, c4⟩ hfw hwc rfl hr hc hT (fun un s b11 b12 hq => H c _ _ un s b11 b12 hc hq (ch_Cnext ⟨c1, c2, c3, c4⟩ hr hc hT) (by rw [ch_sws, z]) (fun h0 => ⟨ch_Cnext ⟨c1, c2, c3, c4⟩ hr hc hT, fun x hx' => ?_⟩))
      rw [ch_Lsw]
      apply tb_nn (tb_upos c1)
      have q := tb_pR (nf (ch_sw rn r (cn c) x)) hc hT
      rw [show tb_R (ch_L nf cn) (nf (rn r)) = 0 by rw [er]; exact h0] at q
      have Rx : 0 ≤ tb_R (ch_L nf cn) (nf (ch_sw rn r (cn c) x)) := by
        rcases Nat.decEq x r with y | y
        · rw [ch_swn _ _ y]
          exact cR x hx'
        · rw [y, ch_sws]
          have : tb_R (ch_L nf cn) (nf (cn c)) = 0 := tb_ownR (ch_L nf cn) hc
          omega
      have up : 0 < tb_s (tb_T (ch_L nf cn) (nf (rn r)) c) * tb_T (ch_L nf cn) (nf (rn r)) c := by
        unfold tb_s
        split <;> omega
      rw [q]
      have := Int.mul_nonneg Rx (show 0 ≤ tb_s (tb_T (ch_L nf cn) (nf (rn r)) c) * tb_T (ch_L nf cn) (nf (rn r)) c by omega)
      have e : tb_s (tb_T (ch_L nf cn) (nf (rn r)) c) * (tb_R (ch_L nf cn) (nf (ch_sw rn r (cn c) x)) * tb_T (ch_L nf cn) (nf (rn r)) c - tb_T (ch_L nf cn) (nf (ch_sw rn r (cn c) x)) c * 0) = tb_R (ch_L nf cn) (nf (ch_sw rn r (cn c) x)) * (tb_s (tb_T (ch_L nf cn) (nf (rn r)) c) * tb_T (ch_L nf cn) (nf (rn r)) c) := by grind
      rw [e]
      exact this
    refine pk_loop (σ := Unit) (fun n c _ => wX_dropExtra_23 post (nI r) Fpr Fwo Frw Ftu Fun (nI 4) Ffw Fwc Fwt Fwb Fln Fem Fhh Fht Fhb Fhl Flt Flb Fbr Fl3 Fg3 A1 A2 A3 A4 A5 A6 A7 A8 A9 A10 A11 A12 A13 A14 A15 A16 A17 A18 A19 n (nI c)) (fun c _ => ∀ c', c' < c → tb_T (ch_L nf cn) (nf (rn r)) c' = 0) 3 0 () (by omega) (fun r' hr' => absurd hr' (by omega)) ?_ ?_
    · intro n _ h0
      refine pk_le 3 3 (fun _ => go 3 (by omega) (fun h3 => ?_)) (fun z => absurd z (by omega)) e3
      have cmp := tb_comp (ch_L nf cn) (nf (rn r)) (show 3 < 4 by decide)
      rw [h0 0 (by decide), h0 1 (by decide), h0 2 (by decide), h3, er, hn99] at cmp
      have up := tb_upos c1
      rw [show la_e 3 3 = 1 from rfl] at cmp
      omega
    · intro n c _ hc h0 hk'
      refine pk_le 3 c (fun z => absurd z (by omega)) (fun _ => ex_cell (show r < 21 by omega) (show c < 5 by omega) ?_) e3
      have q := (p2 r (by omega)).1 c (by omega)
      rw [cb_rf1 hr] at q
      rw [q]
      exact ek_if (am_z0 (am_Rabs (tx_Tb tF (x2 _ (c3 r hr)).1 c) (by omega))) (fun y => nm_r (nI_1 c) (hk' () (lt_s h0 y))) (fun y => go c (by omega) y)
end
section
theorem fm_01 (b8 b9 : Nat → Int32) (n : Nat) {i : Nat} (hi : i ≠ 3) : fm_nf 0 b8 b9 n i = fm_nf 1 b8 b9 n i := by
  unfold fm_nf
  rw [if_neg hi, if_neg hi]
theorem fm_03 (b8 b9 : Nat → Int32) {n : Nat} (hn : n ≠ 99) : fm_nf 0 b8 b9 n 3 = 0 := by
  unfold fm_nf
  rw [if_neg hn]
  split
  · unfold la_e
    rw [if_neg (by omega)]
  · rfl
/-- the additional variable's column is closed -/
theorem fp_close {Ftu : Int32} {A5 A6 A7 b8 b9 b11 b12 c12 : Nat → Int32} {un : Int64} {s t : Nat → Int64} {m k : Nat} {rn cn : Nat → Nat} (hm : m ≤ 13) (hk : k < 4) (hp : cb_pic (fm_nf 1 b8 b9) (fm_wf Ftu A5 A6 A7) m (m + 4 + 1) 4 rn cn un s b11 b12) (hC : ch_C (fm_nf 1 b8 b9) m (fm_Nm m) rn cn) (hV : ∀ r, r < m → 0 ≤ tb_R (ch_L (fm_nf 1 b8 b9) cn) (fm_nf 1 b8 b9 (rn r))) (e99 : cn k = 99)
    (ht : ∀ r c, r < m + 4 → c < 5 → t (5 * r + c) = if c = 3 then 0 else if c = k then s (5 * r + 3) else s (5 * r + c)) (h12 : ∀ j, j < 4 → c12 j = if j = k then b12 3 else b12 j) :
    cb_pic (fm_nf 0 b8 b9) (fm_wf2 Ftu A5 A6 A7) m (m + 4) 3 rn (ch_sw (ch_sw cn k (cn 3)) 3 99) un t b11 c12 ∧ bl_V (fm_nf 0 b8 b9) m (fm_Nm m) rn (ch_sw (ch_sw cn k (cn 3)) 3 99) := by
  obtain ⟨p1, p2, p3, p4, p5⟩ := hp
  obtain ⟨c1, ⟨k1, k2, k3⟩, c3, c4⟩ := hC
  have inj : ∀ j, j < 4 → cn j = 99 → j = k := fun j hj q => la_inj c1 hj hk (show fm_nf 1 b8 b9 (cn j) = fm_nf 1 b8 b9 (cn k) by rw [q, e99])
  have r99 : ∀ r, r < m → rn r ≠ 99 := fun r hr q => k3 r k hr hk (by rw [q, e99])
  have s3 : ch_sw (ch_sw cn k (cn 3)) 3 99 3 = 99 := ch_sws _ _ _
  have sk : k ≠ 3 → ch_sw (ch_sw cn k (cn 3)) 3 99 k = cn 3 := fun q => by rw [ch_swn _ _ q, ch_sws]
  have sj : ∀ j, j < 3 → j ≠ k → ch_sw (ch_sw cn k (cn 3)) 3 99 j = cn j := fun j hj q => by rw [ch_swn _ _ (by omega), ch_swn _ _ q]
  have n99 : ∀ j, j < 3 → ch_sw (ch_sw cn k (cn 3)) 3 99 j ≠ 99 := by
    intro j hj q
    rcases Nat.decEq j k with z | z
    · rw [sj j hj z] at q
      exact z (inj j (by omega) q)
    · rw [z, sk (by omega)] at q
      have := inj 3 (by omega) q
      omega
  obtain ⟨q1, q2, q3⟩ := cl_core (L := ch_L (fm_nf 1 b8 b9) cn) (M := ch_L (fm_nf 0 b8 b9) (ch_sw (ch_sw cn k (cn 3)) 3 99)) hk (by
      unfold ch_L
      rw [e99, fm_n99]) (by
      unfold ch_L
      rw [s3, fm_n99]) (fun i hi hk3 => by
      unfold ch_L
      rw [sk hk3]
      exact fm_01 _ _ _ hi) (fun j hj hjk i hi => by
      unfold ch_L
      rw [sj j hj hjk]
      exact fm_01 _ _ _ hi) (fun j hj => by
      unfold ch_L
      exact fm_03 _ _ (n99 j hj)) c1
  have core : ∀ r, r < m + 4 → tb_T (ch_L (fm_nf 0 b8 b9) (ch_sw (ch_sw cn k (cn 3)) 3 99)) (cb_rf (fm_nf 0 b8 b9) (fm_wf2 Ftu A5 A6 A7) m rn r) 3 = 0 ∧ (k ≠ 3 → tb_T (ch_L (fm_nf 0 b8 b9) (ch_sw (ch_sw cn k (cn 3)) 3 99)) (cb_rf (fm_nf 0 b8 b9) (fm_wf2 Ftu A5 A6 A7) m rn r) k = tb_T (ch_L (fm_nf 1 b8 b9) cn) (cb_rf (fm_nf 1 b8 b9) (fm_wf Ftu A5 A6 A7) m rn r) 3) ∧ (∀ j, j < 3 → j ≠ k → tb_T (ch_L (fm_nf 0 b8 b9) (ch_sw (ch_sw cn k (cn 3)) 3 99)) (cb_rf (fm_nf 0 b8 b9) (fm_wf2 Ftu A5 A6 A7) m rn r) j = tb_T (ch_L (fm_nf 1 b8 b9) cn) (cb_rf (fm_nf 1 b8 b9) (fm_wf Ftu A5 A6 A7) m rn r) j) ∧ tb_R (ch_L (fm_nf 0 b8 b9) (ch_sw (ch_sw cn k (cn 3)) 3 99)) (cb_rf (fm_nf 0 b8 b9) (fm_wf2 Ftu A5 A6 A7) m rn r) = tb_R (ch_L (fm_nf 1 b8 b9) cn) (cb_rf (fm_nf 1 b8 b9) (fm_wf Ftu A5 A6 A7) m rn r) := by
    intro r hr
    rcases Nat.lt_or_ge r m with z | z
    · rw [cb_rf1 z, cb_rf1 z]
      exact q3 _ _ (fm_03 _ _ (r99 r z)) (fun i hi => fm_01 _ _ _ hi)
    · obtain ⟨w, rfl⟩ : ∃ w, r = m + w := ⟨r - m, by omega⟩
      rw [cb_rf2, cb_rf2, fm_wf2, if_neg (show ¬ w = 4 by omega)]
      refine q3 _ _ ?_ (fun _ _ => rfl)
      unfold fm_wf
      rw [if_neg (show ¬ w = 4 by omega)]
      rfl
  refine ⟨⟨by rw [q2]; exact p1, fun r hr => ?_, p3, fun j hj => ?_, fun _ => ⟨s3, n99, r99⟩⟩, ⟨⟨q1, ⟨fun n hn => ?_, k2, fun r j hr hj q => ?_⟩, c3, fun j hj => ?_⟩, fun r hr => ?_⟩⟩
  · obtain ⟨g1, g2, g3, g4⟩ := core r hr
    obtain ⟨v1, v2⟩ := p2 r (by omega)
    refine ⟨fun j hj => ?_, ?_⟩
    · rw [ht r j hr (by omega)]
      by_cases j3 : j = 3
      · rw [if_pos j3, j3, g1]
        rfl
      · rw [if_neg j3]
        by_cases jk : j = k
        · rw [if_pos jk, v1 3 (by omega), jk, g2 (by omega)]
        · rw [if_neg jk, v1 j hj, g3 j (by omega) jk]
    · rw [ht r 4 hr (by omega), if_neg (by omega), if_neg (by omega), v2, g4]
  · rw [h12 j (by omega)]
    by_cases jk : j = k
    · rw [if_pos jk, jk, sk (by omega)]
      exact p4 3 (by omega)
    · rw [if_neg jk, sj j hj jk]
      exact p4 j (by omega)
  · rcases k1 n hn with q | ⟨j, hj, ej⟩
    · exact Or.inl q
    · right
      rcases Nat.decEq j k with z | z
      · rcases Nat.lt_or_ge j 3 with y | y
        · exact ⟨j, hj, by rw [sj j y z]; exact ej⟩
        · have e3 : j = 3 := by omega
          exact ⟨k, hk, by rw [sk (by omega), ← e3]; exact ej⟩
      · exact ⟨3, by omega, by rw [s3, ← ej, z, e99]⟩
  · rcases Nat.decEq j 3 with z | z
    · rcases Nat.decEq j k with y | y
      · rw [sj j (by omega) y] at q
        exact k3 r j hr hj q
      · rw [y, sk (by omega)] at q
        exact k3 r 3 hr (by omega) q
    · rw [z, s3] at q
      exact r99 r hr q
  · rcases Nat.decEq j 3 with z | z
    · rcases Nat.decEq j k with y | y
      · rw [sj j (by omega) y]
        exact c4 j hj
      · rw [y, sk (by omega)]
        exact c4 3 (by omega)
    · rw [z, s3]
      exact Or.inr rfl
  · obtain ⟨g1, g2, g3, g4⟩ := core r (by omega)
    rw [cb_rf1 hr, cb_rf1 hr] at g4
    rw [g4]
    exact hV r hr
/-- the search for a point ended: what its worth says -/
theorem fp_end {b8 b9 : Nat → Int32} {Ftu : Int32} {A5 A6 A7 : Nat → Int32} {m : Nat} {rn cn : Nat → Nat} (hV : bl_V (fm_nf 1 b8 b9) m (fm_Nm m) rn cn)
    (hE : (∀ j, j < 4 → ¬ lx_N (fun w => tb_T (ch_L (fm_nf 1 b8 b9) cn) (fm_wl (fm_wf Ftu A5 A6 A7) w) j)) ∨ (∃ e, e < 4 ∧ lx_N (fun w => tb_T (ch_L (fm_nf 1 b8 b9) cn) (fm_wl (fm_wf Ftu A5 A6 A7) w) e) ∧ ∀ r, r < m → tb_T (ch_L (fm_nf 1 b8 b9) cn) (fm_nf 1 b8 b9 (rn r)) e ≤ 0)) :
    tb_R (ch_L (fm_nf 1 b8 b9) cn) (fm_wf Ftu A5 A6 A7 4) = -tb_R (ch_L (fm_nf 1 b8 b9) cn) (fm_nf 1 b8 b9 99) ∧ ∀ y : Nat → Int, 0 < y 4 → y 3 = 0 → (∀ n, fm_Nm m n → 0 ≤ tb_val (fm_nf 1 b8 b9 n) y) → tb_R (ch_L (fm_nf 1 b8 b9) cn) (fm_wf Ftu A5 A6 A7 4) = 0 := by
  have up := tb_upos hV.1.1
  have w4 : ∀ i, fm_wf Ftu A5 A6 A7 4 i = -(fm_nf 1 b8 b9 99 i) := by
    intro i
    rw [fm_n99]
    unfold fm_wf
    rw [if_pos rfl]
  have T4 : ∀ j, tb_T (ch_L (fm_nf 1 b8 b9) cn) (fm_wf Ftu A5 A6 A7 4) j = -tb_T (ch_L (fm_nf 1 b8 b9) cn) (fm_nf 1 b8 b9 99) j := by
    intro j
    rw [tb_Tlin, tb_Tlin _ (fm_nf 1 b8 b9 99), w4, w4, w4, w4]
    grind
  have R4 : tb_R (ch_L (fm_nf 1 b8 b9) cn) (fm_wf Ftu A5 A6 A7 4) = -tb_R (ch_L (fm_nf 1 b8 b9) cn) (fm_nf 1 b8 b9 99) := by
    unfold tb_R
    rw [T4, T4, T4, T4, w4]
    grind
  refine ⟨R4, fun y h4 h3 hy => ?_⟩
  have R99 : 0 ≤ tb_R (ch_L (fm_nf 1 b8 b9) cn) (fm_nf 1 b8 b9 99) := by
    rw [← tb_vxval]
    exact oq_vx hV (Or.inr rfl)
  have wl0 : fm_wl (fm_wf Ftu A5 A6 A7) 0 = fm_wf Ftu A5 A6 A7 4 := by
    unfold fm_wl
    rw [if_pos rfl]
  have good : ∀ j, j < 4 → 0 ≤ tb_T (ch_L (fm_nf 1 b8 b9) cn) (fm_wf Ftu A5 A6 A7 4) j := by
    rcases hE with h | ⟨e, he, hN, hT⟩
    · intro j hj
      have := h j hj
      unfold lx_N at this
      dsimp only at this
      rw [wl0] at this
      omega
    · exfalso
      have neg : tb_T (ch_L (fm_nf 1 b8 b9) cn) (fm_wf Ftu A5 A6 A7 4) e < 0 := by
        unfold lx_N at hN
        dsimp only at hN
        rw [wl0] at hN
        have z : ∀ w, w ≠ 0 → tb_T (ch_L (fm_nf 1 b8 b9) cn) (fm_wl (fm_wf Ftu A5 A6 A7) w) e = 0 := by
          intro w hw
          unfold fm_wl
          rw [if_neg hw, tb_T0]
        rw [z 1 (by decide), z 2 (by decide), z 3 (by decide)] at hN
        omega
      rw [T4] at neg
      rcases hV.1.2.1.1 99 (Or.inr rfl) with ⟨r, hr, er⟩ | ⟨j, hj, ej⟩
      · have := hT r hr
        rw [er] at this
        omega
      · rw [← ej] at neg
        rcases Nat.decEq j e with z | z
        · have o : tb_T (ch_L (fm_nf 1 b8 b9) cn) (fm_nf 1 b8 b9 (cn j)) e = 0 := tb_own0 (ch_L (fm_nf 1 b8 b9) cn) hj he z
          omega
        · have o : tb_T (ch_L (fm_nf 1 b8 b9) cn) (fm_nf 1 b8 b9 (cn e)) e = -tb_u (ch_L (fm_nf 1 b8 b9) cn) := tb_own1 (ch_L (fm_nf 1 b8 b9) cn) he
          rw [z] at neg
          omega
  have sm := tb_sem (ch_L (fm_nf 1 b8 b9) cn) (fm_wf Ftu A5 A6 A7 4) y
  have v0 : tb_val (fm_wf Ftu A5 A6 A7 4) y = 0 := by
    rw [so_val, w4, w4, w4, w4, w4, fm_n99, h3]
    simp [la_e]
  rw [v0] at sm
  have hc : ∀ j, j < 4 → 0 ≤ tb_val (ch_L (fm_nf 1 b8 b9) cn j) y := fun j hj => hy _ (hV.1.2.2.2 j hj)
  have a0 := Int.mul_nonneg (good 0 (by decide)) (hc 0 (by decide))
  have a1 := Int.mul_nonneg (good 1 (by decide)) (hc 1 (by decide))
  have a2 := Int.mul_nonneg (good 2 (by decide)) (hc 2 (by decide))
  have a3 := Int.mul_nonneg (good 3 (by decide)) (hc 3 (by decide))
  have nn : 0 ≤ y 4 * tb_R (ch_L (fm_nf 1 b8 b9) cn) (fm_wf Ftu A5 A6 A7 4) := by
    have := Int.mul_comm (y 4) (tb_R (ch_L (fm_nf 1 b8 b9) cn) (fm_wf Ftu A5 A6 A7 4))
    omega
  have := tb_nn h4 nn
  omega
theorem wk_find {post : Int32 → St1 → Prop} {Fpr Fwo Ftu : Int32} {Fwt Fwb : Int64} {Fln Fem Fhh : Int32} {Fht Fhb : Int64} {Fhl : Int32} {Flt Flb : Int64} {Fbr Fl3 Fg3 : Int32} {A1 A2 A3 A4 A5 A6 A7 A8 A9 : Nat → Int32} {A10 : Nat → Int64} {A11 A12 : Nat → Int32} {A13 A14 A15 A16 A17 : Nat → Int64} {A18 A19 : Nat → Int32} {M : Nat} (hr : rw_ok Fpr Fwo Ftu A1 A2 A3 A5 A6 M A8 A9) (hbx : rw_box A5 A6) (hA7 : ∀ j, j < 3 → (A7 j).toInt.natAbs ≤ 7)
    (h1 : ∀ r c, r < M + 3 → c < 5 → A10 (5 * r + c) = sz_V A8 A9 r c) (h2 : ∀ w c, w < 4 → c < 5 → A10 (5 * (M + 3 + w) + c) = sz_W Ftu A5 A6 A7 w c) (h3 : ∀ r, r < M + 3 → A11 r = nI (3 + r)) (h4 : ∀ i, i < 3 → A12 i = nI i)
    (H0 : ∀ un co fw wc s b11 b12, (∀ X q, ¬ so_F Fpr Fwo A1 A2 A3 A5 A6 X q) → post 0 (Fpr, Fwo, (nI (M + 3)), Ftu, un, co, fw, wc, Fwt, Fwb, Fln, Fem, Fhh, Fht, Fhb, Fhl, Flt, Flb, Fbr, Fl3, Fg3, A1, A2, A3, A4, A5, A6, A7, A8, A9, s, b11, b12, A13, A14, A15, A16, A17, A18, A19))
    (H1 : ∀ rn cn un s b11 b12, cb_pic (fm_nf 0 A8 A9) (fm_wf2 Ftu A5 A6 A7) (M + 3) (M + 3 + 4) 3 rn cn un s b11 b12 → bl_V (fm_nf 0 A8 A9) (M + 3) (fm_Nm (M + 3)) rn cn → post 1 (Fpr, Fwo, (nI (M + 3)), Ftu, un, 3, (nI (M + 3)), 4, Fwt, Fwb, Fln, Fem, Fhh, Fht, Fhb, Fhl, Flt, Flb, Fbr, Fl3, Fg3, A1, A2, A3, A4, A5, A6, A7, A8, A9, s, b11, b12, A13, A14, A15, A16, A17, A18, A19)) :
    wpX_findPoint post (Fpr, Fwo, (nI (M + 3)), Ftu, 1, 3, (nI (M + 3)), 4, Fwt, Fwb, Fln, Fem, Fhh, Fht, Fhb, Fhl, Flt, Flb, Fbr, Fl3, Fg3, A1, A2, A3, A4, A5, A6, A7, A8, A9, A10, A11, A12, A13, A14, A15, A16, A17, A18, A19) := by
  obtain ⟨r1, r2, r3, r4, r5, r6⟩ := id hr
  have hm : M + 3 ≤ 13 := by omega
  unfold wpX_findPoint
  refine wk_lowest (m := M + 3) (R := fun r => (A9 r).toInt) rfl (by omega) (by omega) (fun r hr' => ⟨?_, ?_⟩) (fun l hl hmin => ex_cellx (r := l) (c := 4) rfl rfl (by omega) (by omega) ?_)
  · rw [h1 r 4 hr' (by omega)]
    rfl
  · have := r3 r hr'
    try dsimp only
    omega
  have bl := r3 l hl
  rw [h1 l 4 hl (by omega), show sz_V A8 A9 l 4 = am_L (A9 l).toInt from rfl]
  refine ek_if (am_zlt (am_Rabs bl (by omega))) (fun neg => nm_e ?_) (fun pos => ?_)
  rotate_left
  · refine H1 fm_rn fm_cn 1 A10 A11 A12 (fm_pic2 hm h1 h2 h3 h4) ⟨fm_C 0 A8 A9 hm, fun r hr' => ?_⟩
    rw [id_R (fm_id 0 A8 A9)]
    unfold fm_rn
    rw [fm_nrow _ _ _ (by omega), if_pos rfl]
    have := hmin r hr'
    try dsimp only at this
    omega
  · refine pk_loop (fun n i (s : Nat → Int64) => wX_findPoint_33 post (nI l) Fpr Fwo (nI (M + 3)) Ftu 1 4 (nI (M + 3)) 4 Fwt Fwb Fln Fem Fhh Fht Fhb Fhl Flt Flb Fbr Fl3 Fg3 n (nI i) A1 A2 A3 A4 A5 A6 A7 A8 A9 s A11 (upd A12 3 99) A13 A14 A15 A16 A17 A18 A19) (fun i s => ∀ r c, c < 5 → s (5 * r + c) = if r < i ∧ c = 3 then -1 else A10 (5 * r + c)) (M + 3) 0 A10 (by omega) (fun r c hc => by rw [if_neg (by omega)]) ?_ ?_
    rotate_left
    · intro n i s hi h hk
      refine pk_le (M + 3) i (fun z => absurd z (by omega)) (fun _ => ⟨ex_in (c := 3) (by omega) (by omega), nm_r (e' := vp_updL s (5 * i + 3) (-1)) (by rw [show (3 : Int32) = nI 3 from rfl, ex_cl (by omega) (by omega)]) (nm_r (nI_1 i) (hk _ (fun r c hc => ?_)))⟩)
      rw [ex_upd (by omega) hc, h r c hc]
      by_cases g : r = i ∧ c = 3
      · rw [if_pos g, if_pos (by omega)]
      · rw [if_neg g]
        by_cases g2 : r < i ∧ c = 3
        · rw [if_pos g2, if_pos (by omega)]
        · rw [if_neg g2, if_neg (by omega)]
    · intro n s hs
      refine pk_le (M + 3) (M + 3) (fun _ => nm_r (nI_add (M + 3) 4) ?_) (fun z => absurd z (by omega))
      refine pk_loop (fun n i (t : Nat → Int64) => wX_findPoint_77 post (nI l) Fpr Fwo (nI (M + 3)) Ftu 1 4 (nI (M + 3 + 4)) 1 Fwt Fwb Fln Fem Fhh Fht Fhb Fhl Flt Flb Fbr Fl3 Fg3 n (nI i) A1 A2 A3 A4 A5 A6 A7 A8 A9 t A11 (upd A12 3 99) A13 A14 A15 A16 A17 A18 A19) (fun i t => (∀ r c, r < M + 3 + 4 → c < 5 → t (5 * r + c) = if r < M + 3 ∧ c = 3 then -1 else A10 (5 * r + c)) ∧ ∀ c, c < i → t (5 * (M + 3 + 4) + c) = if c = 3 then 1 else 0) 5 0 s (by omega) ⟨fun r c _ hc => hs r c hc, fun c hc => absurd hc (by omega)⟩ ?_ ?_
      rotate_left
      · intro n i t hi ⟨g1, g2⟩ hk
        have put : ∀ v : Int64, v = (if i = 3 then 1 else 0) → wX_findPoint_77 post (nI l) Fpr Fwo (nI (M + 3)) Ftu 1 4 (nI (M + 3 + 4)) 1 Fwt Fwb Fln Fem Fhh Fht Fhb Fhl Flt Flb Fbr Fl3 Fg3 n (nI (i + 1)) A1 A2 A3 A4 A5 A6 A7 A8 A9 (vp_updL t (5 * (M + 3 + 4) + i) v) A11 (upd A12 3 99) A13 A14 A15 A16 A17 A18 A19 := by
          intro v ev
          refine hk _ ⟨fun r c hr' hc => ?_, fun c hc => ?_⟩
          · rw [ex_upd (by omega) hc, if_neg (by omega)]
            exact g1 r c hr' hc
          · rw [ex_upd (by omega) (by omega)]
            by_cases g : M + 3 + 4 = M + 3 + 4 ∧ c = i
            · rw [if_pos g, ev, g.2]
            · rw [if_neg g]
              exact g2 c (by omega)
        exact pk_le 5 i (fun z => absurd z (by omega)) (fun _ => pk_eq i 3 (fun z => ⟨ex_in (by omega) (by omega), nm_r (by rw [ex_cl (by omega) (by omega)]) (nm_r (nI_1 i) (put 1 (by rw [if_pos z])))⟩) (fun z => ⟨ex_in (by omega) (by omega), nm_r (by rw [ex_cl (by omega) (by omega)]) (nm_r (nI_1 i) (put 0 (by rw [if_neg z])))⟩))
      · intro n t ⟨g1, g2⟩
        have X1 : cb_ctx (fm_nf 1 A8 A9) (fm_wf Ftu A5 A6 A7) (fm_wl (fm_wf Ftu A5 A6 A7)) (M + 3) (M + 3 + 4) 1 4 (fm_Nm (M + 3)) := fm_x1 hm r2 r3 hbx hA7
        have P1 : cb_pic (fm_nf 1 A8 A9) (fm_wf Ftu A5 A6 A7) (M + 3) (M + 3 + 4 + 1) 4 fm_rn fm_cn 1 t A11 (upd A12 3 99) := fm_pic1 hm h1 h2 h3 h4 g1 g2
        obtain ⟨T1, V1⟩ := fm_first (b8 := A8) hm hl neg hmin
        refine pk_le 5 5 (fun _ => ?_) (fun z => absurd z (by omega))
        refine cb_exchange (e := 3) X1 P1 (fm_C 1 A8 A9 hm) rfl rfl rfl hl (by omega) T1 (fun un s' b11 b12 P2 => ?_)
        refine cb_climb X1 P2 V1 rfl rfl rfl rfl (fun rn cn un s' b11 b12 P3 V3 E3 => ?_)
        obtain ⟨x1, x2, x3, x4, x5⟩ := id X1
        obtain ⟨R4, F4⟩ := fp_end (Ftu := Ftu) (A5 := A5) (A6 := A6) (A7 := A7) V3 E3
        have c4 := (P3.2.1 (M + 3 + 4) (by omega)).2
        rw [cb_rf2] at c4
        have b4 : (tb_R (ch_L (fm_nf 1 A8 A9) cn) (fm_wf Ftu A5 A6 A7 4)).natAbs ≤ 172872000 := tx_Rb (fun j hj => (x2 _ (V3.1.2.2.2 j hj)).1) (x3 4 (by omega))
        refine ex_cellx (r := M + 3 + 4) (c := 4) rfl rfl (by omega) (by omega) ?_
        rw [c4]
        refine ek_if (am_z0 (am_Rabs b4 (by omega))) (fun z0 => ?_) (fun z0 => ?_)
        · unfold wX_findPoint_140
          refine wk_drop X1 P3 V3 rfl rfl rfl rfl (Or.inr rfl) (fm_n99 1 A8 A9) (fun k rn' cn' un' s'' c11 c12 hk P4 C4 e99 V4 => ?_)
          have V4' := V4 (by omega)
          refine br_f (by decide) (br_f (nI_pos (by omega)) (wk_close (m := M + 3) (k := k) rfl hm hk (fun t' ht' => ⟨rfl, ?_⟩)))
          have n3 : vp_nar .byte (c12 3) = c12 3 := by
            have b3 : cn' 3 < 100 := by
              have := (x2 _ (C4.2.2.2 3 (by omega))).2
              omega
            rw [P4.2.2.2.1 3 (by omega), am_nI, am_I8n (by omega) (by omega)]
          obtain ⟨P5, V5⟩ := fp_close (c12 := upd c12 k (vp_nar .byte (c12 3))) hm hk P4 C4 V4'.2 e99 ht' (fun j hj => by
            by_cases g : j = k
            · rw [if_pos g, g, pk_us, n3]
            · rw [if_neg g, pk_un g])
          exact H1 _ _ _ _ _ _ P5 V5
        · unfold wX_findPoint_140
          refine wk_drop X1 P3 V3 rfl rfl rfl rfl (Or.inr rfl) (fm_n99 1 A8 A9) (fun k rn' cn' un' s'' c11 c12 hk P4 C4 e99 V4 => ?_)
          refine br_t rfl ⟨rfl, H0 _ _ _ _ _ _ _ (fun X q hF => z0 ?_)⟩
          exact F4 (so_y Ftu A5 A6 X q) hF.1 rfl ((so_names hr 1 X q hF.1).mp hF)
end
section
theorem wk_readoff {post : St1 → Prop} {Fpr Fwo Frw Ftu : Int32} {Fun : Int64} {Fco Ffw Fwc : Int32} {Fwt Fwb : Int64} {Fln Fem Fhh : Int32} {Fht Fhb : Int64} {Fhl : Int32} {Flt Flb : Int64} {Fbr Fl3 Fg3 : Int32} {A1 A2 A3 A4 A5 A6 A7 A8 A9 : Nat → Int32} {A10 : Nat → Int64} {A11 A12 : Nat → Int32} {A13 A14 A15 A16 A17 : Nat → Int64} {A18 A19 : Nat → Int32} {nf wf wl : Nat → Nat → Int} {m fw wc cc last : Nat} {Nm : Nat → Prop} {rn cn : Nat → Nat} (hx : cb_ctx nf wf wl m fw wc cc Nm) (hp : cb_pic nf wf m last cc rn cn Fun A10 A11 A12) (hC : ch_C nf m Nm rn cn) (hm : Frw = nI m) (hfw : Ffw = nI m) (hl : m < last) (hn : ∀ i, i < 3 → Nm i ∧ nf i = la_e i)
    (H : ∀ b13 : Nat → Int64, (∀ i, i < 3 → b13 i = am_L (so_X Ftu A5 A6 (ch_L nf cn) i)) → post (Fpr, Fwo, Frw, Ftu, Fun, Fco, Ffw, Fwc, (am_L (tb_R (ch_L nf cn) (wf 0))), Fun, Fln, Fem, Fhh, Fht, Fhb, Fhl, Flt, Flb, Fbr, Fl3, Fg3, A1, A2, A3, A4, A5, A6, A7, A8, A9, A10, A11, A12, b13, A14, A15, A16, A17, A18, A19)) : wpX_readOff post (Fpr, Fwo, Frw, Ftu, Fun, Fco, Ffw, Fwc, Fwt, Fwb, Fln, Fem, Fhh, Fht, Fhb, Fhl, Flt, Flb, Fbr, Fl3, Fg3, A1, A2, A3, A4, A5, A6, A7, A8, A9, A10, A11, A12, A13, A14, A15, A16, A17, A18, A19) := by
  obtain ⟨x1, x2, x3, x4, x5⟩ := id hx
  obtain ⟨p1, p2, p3, p4, p5⟩ := id hp
  obtain ⟨c1, c2, c3, c4⟩ := id hC
  subst hm hfw
  have bn : ∀ n, Nm n → n < 100 := fun n hn => by
    have := (x2 n hn).2
    omega
  unfold wpX_readOff
  refine ex_cellx (r := m) (c := 4) rfl rfl (by omega) (by omega) ?_
  have w0 := (p2 m hl).2
  rw [show cb_rf nf wf m rn m = wf 0 from cb_rf2 (w := 0)] at w0
  rw [w0]
  refine pk_loop (fun n i (s : Nat → Int64) => wX_readOff_23 post Fpr Fwo (nI m) Ftu Fun Fco (nI m) Fwc (am_L (tb_R (ch_L nf cn) (wf 0))) Fun Fln Fem Fhh Fht Fhb Fhl Flt Flb Fbr Fl3 Fg3 n (nI i) A1 A2 A3 A4 A5 A6 A7 A8 A9 A10 A11 A12 s A14 A15 A16 A17 A18 A19) (fun i s => ∀ j, j < i → s j = am_L (so_X Ftu A5 A6 (ch_L nf cn) j)) 3 0 A13 (by omega) (fun j hj => absurd hj (by omega)) ?_ ?_
  · intro n s h
    exact pk_le 3 3 (fun _ => H s h) (fun z => absurd z (by omega))
  · intro n i s hi h hk
    refine pk_le 3 i (fun z => absurd z (by omega)) (fun _ => ?_)
    have fin : ∀ own : Int64, own = am_L (tb_R (ch_L nf cn) (nf i)) → (((Ftu >>> (nI i &&& 31)) &&& 1) = 0 → wX_readOff_87 post (wX_readOff_23 post Fpr Fwo (nI m) Ftu Fun Fco (nI m) Fwc (am_L (tb_R (ch_L nf cn) (wf 0))) Fun Fln Fem Fhh Fht Fhb Fhl Flt Flb Fbr Fl3 Fg3 n) (nI i) own 0 Fpr Fwo (nI m) Ftu Fun Fco (nI m) Fwc (am_L (tb_R (ch_L nf cn) (wf 0))) Fun Fln Fem Fhh Fht Fhb Fhl Flt Flb Fbr Fl3 Fg3 A1 A2 A3 A4 A5 A6 A7 A8 A9 A10 A11 A12 s A14 A15 A16 A17 A18 A19) ∧ (¬ ((Ftu >>> (nI i &&& 31)) &&& 1) = 0 → wX_readOff_87 post (wX_readOff_23 post Fpr Fwo (nI m) Ftu Fun Fco (nI m) Fwc (am_L (tb_R (ch_L nf cn) (wf 0))) Fun Fln Fem Fhh Fht Fhb Fhl Flt Flb Fbr Fl3 Fg3 n) (nI i) own 1 Fpr Fwo (nI m) Ftu Fun Fco (nI m) Fwc (am_L (tb_R (ch_L nf cn) (wf 0))) Fun Fln Fem Fhh Fht Fhb Fhl Flt Flb Fbr Fl3 Fg3 A1 A2 A3 A4 A5 A6 A7 A8 A9 A10 A11 A12 s A14 A15 A16 A17 A18 A19) := by
      intro own eo
      have put : ∀ v : Int64, v = am_L (so_X Ftu A5 A6 (ch_L nf cn) i) → wX_readOff_23 post Fpr Fwo (nI m) Ftu Fun Fco (nI m) Fwc (am_L (tb_R (ch_L nf cn) (wf 0))) Fun Fln Fem Fhh Fht Fhb Fhl Flt Flb Fbr Fl3 Fg3 n (nI (i + 1)) A1 A2 A3 A4 A5 A6 A7 A8 A9 A10 A11 A12 (vp_updL s i v) A14 A15 A16 A17 A18 A19 := by
        intro v ev
        refine hk _ (fun j hj => ?_)
        by_cases g : j = i
        · rw [g, pk_uLs, ev]
        · rw [pk_uLn g]
          exact h j (by omega)
      constructor
      · intro d
        refine br_t rfl ⟨pk_in i 3 hi, pk_in i 3 hi, nm_r (by rw [nI_clamp (show i < 2 ^ 31 by omega)]) (nm_r (nI_1 i) (put _ ?_))⟩
        rw [sz_toL, p1, eo, am_Lmul, am_Ladd, so_X, rw_fr, if_pos d, rw_sg, if_pos d, (hn i hi).2, Int.one_mul]
      · intro d
        refine br_f (by decide) ⟨pk_in i 3 hi, pk_in i 3 hi, nm_r (by rw [nI_clamp (show i < 2 ^ 31 by omega)]) (nm_r (nI_1 i) (put _ ?_))⟩
        rw [sz_toL, p1, eo, am_Lmul, am_Lsub, so_X, rw_fr, if_neg d, rw_sg, if_neg d, (hn i hi).2]
        congr 1
        omega
    refine pk_loop (fun n' r (own : Int64) => wX_readOff_33 post (wX_readOff_23 post Fpr Fwo (nI m) Ftu Fun Fco (nI m) Fwc (am_L (tb_R (ch_L nf cn) (wf 0))) Fun Fln Fem Fhh Fht Fhb Fhl Flt Flb Fbr Fl3 Fg3 n) (nI i) Fpr Fwo (nI m) Ftu Fun Fco (nI m) Fwc (am_L (tb_R (ch_L nf cn) (wf 0))) Fun Fln Fem Fhh Fht Fhb Fhl Flt Flb Fbr Fl3 Fg3 A1 A2 A3 A4 A5 A6 A7 A8 A9 A10 A11 A12 s A14 A15 A16 A17 A18 A19 n' own (nI r)) (fun r own => own = am_L (tb_R (ch_L nf cn) (nf i)) ∨ (own = 0 ∧ ∀ r', r' < r → rn r' ≠ i)) m 0 0 (by omega) (Or.inr ⟨rfl, fun r' hr' => absurd hr' (by omega)⟩) ?_ ?_
    · intro n' own ho
      refine pk_le m m (fun _ => fin own ?_) (fun z => absurd z (by omega))
      rcases ho with e | ⟨e, no⟩
      · exact e
      · rcases c2.1 i (hn i hi).1 with ⟨r, hr, er⟩ | ⟨j, hj, ej⟩
        · exact absurd er (no r hr)
        · rw [e, ← ej, show tb_R (ch_L nf cn) (nf (cn j)) = 0 from tb_ownR (ch_L nf cn) hj]
          rfl
    · intro n' r own hr ho hk'
      refine pk_le m r (fun z => absurd z (by omega)) (fun _ => ⟨pk_in r 16 (by omega), ?_⟩)
      rw [nI_clamp (show r < 2 ^ 31 by omega), p3 r hr]
      have br' := bn _ (c3 r hr)
      refine pk_eq (rn r) i (fun z => ex_cellx rfl rfl (show r < 21 by omega) (show 4 < 5 by omega) (nm_r (nI_1 r) (hk' _ (Or.inl ?_)))) (fun z => nm_r (nI_1 r) (hk' own ?_))
      · have q := (p2 r (by omega)).2
        rw [cb_rf1 hr, z] at q
        exact q
      · rcases ho with e | ⟨e, no⟩
        · exact Or.inl e
        · exact Or.inr ⟨e, lt_s no z⟩
/-- the question is answered from the side of the points -/
theorem sp_ok {post : Int32 → St1 → Prop} {Fpr Fwo Frw Ftu : Int32} {Fun : Int64} {Fco Ffw Fwc : Int32} {Fwt Fwb : Int64} {Fln Fem Fhh : Int32} {Fht Fhb : Int64} {Fhl : Int32} {Flt Flb : Int64} {Fbr Fl3 Fg3 : Int32} {A1 A2 A3 A4 A5 A6 A7 A8 A9 : Nat → Int32} {A10 : Nat → Int64} {A11 A12 : Nat → Int32} {A13 A14 A15 A16 A17 : Nat → Int64} {A18 A19 : Nat → Int32} (hA1 : ∀ j, j < 15 → (A1 j).toInt.natAbs ≤ 7) (hA3 : ∀ j, j < 5 → (A3 j).toInt.natAbs ≤ 99) (hbx : rw_box A5 A6) (hA7 : ∀ j, j < 3 → (A7 j).toInt.natAbs ≤ 7)
    (H0 : (∀ X q, ¬ so_F Fpr Fwo A1 A2 A3 A5 A6 X q) → ∀ (rq tu : Int32) (un : Int64) (co fw wc : Int32) (wt wb : Int64) (b8 b9 : Nat → Int32) (b10 : Nat → Int64) (b11 b12 : Nat → Int32) (b13 : Nat → Int64), post 0 (Fpr, Fwo, rq, tu, un, co, fw, wc, wt, wb, Fln, Fem, Fhh, Fht, Fhb, Fhl, Flt, Flb, Fbr, Fl3, Fg3, A1, A2, A3, A4, A5, A6, A7, b8, b9, b10, b11, b12, b13, A14, A15, A16, A17, A18, A19))
    (H1 : ∀ X q, so_O Fpr Fwo A1 A2 A3 A5 A6 A7 X q → q ≤ 57624 → ∀ (rq tu : Int32) (un : Int64) (co fw wc : Int32) (wt wb : Int64) (b8 b9 : Nat → Int32) (b10 : Nat → Int64) (b11 b12 : Nat → Int32) (b13 : Nat → Int64), (∀ i, i < 3 → b13 i = am_L (X i)) → wt = am_L (so_W A7 X 0) → wb = am_L q → post 1 (Fpr, Fwo, rq, tu, un, co, fw, wc, wt, wb, Fln, Fem, Fhh, Fht, Fhb, Fhl, Flt, Flb, Fbr, Fl3, Fg3, A1, A2, A3, A4, A5, A6, A7, b8, b9, b10, b11, b12, b13, A14, A15, A16, A17, A18, A19)) : wpX_solveByPoints post (Fpr, Fwo, Frw, Ftu, Fun, Fco, Ffw, Fwc, Fwt, Fwb, Fln, Fem, Fhh, Fht, Fhb, Fhl, Flt, Flb, Fbr, Fl3, Fg3, A1, A2, A3, A4, A5, A6, A7, A8, A9, A10, A11, A12, A13, A14, A15, A16, A17, A18, A19) := by
  unfold wpX_solveByPoints
  refine rw_write hA1 hA3 hbx (fun m b8 b9 hr => ?_)
  obtain ⟨r1, r2, r3, r4, r5, r6⟩ := id hr
  have hm : m + 3 ≤ 13 := by omega
  refine sz_ok (m := m + 3) hm rfl hbx hA7 (fun s b11 b12 h1 h2 h3 h4 => ?_)
  refine wk_find hr hbx hA7 h1 h2 h3 h4 (fun un co fw wc s b11 b12 no => ?_) (fun rn cn un s b11 b12 P V => ?_)
  · exact br_t rfl (H0 no _ _ _ _ _ _ _ _ _ _ _ _ _ _)
  · refine br_f (by decide) ?_
    have X2 : cb_ctx (fm_nf 0 b8 b9) (fm_wf2 0 A5 A6 A7) (fm_wf 0 A5 A6 A7) (m + 3) (m + 3) 4 3 (fm_Nm (m + 3)) := fm_x2 hm r2 r3 hbx hA7
    refine cb_climb X2 P V rfl rfl rfl rfl (fun rn' cn' un' s' c11 c12 P' V' E' => ?_)
    obtain ⟨c3, _, _⟩ := P'.2.2.2.2 rfl
    have E : ∀ j, j < 4 → ¬ lx_N (fun w => tb_T (ch_L (fm_nf 0 b8 b9) cn') (fm_wf 0 A5 A6 A7 w) j) := by
      rcases E' with h | ⟨e, he, hN, hT⟩
      · exact h
      · exact absurd (so_stop hr c3 V' (cb_n3 X2 P' he hN) hT) (fun f => f)
    obtain ⟨O, W0⟩ := so_best hr c3 V' E
    refine wk_readoff X2 P' V'.1 rfl rfl (by omega) (fun i hi => ⟨Or.inl (by omega), fm_nam _ _ _ hi⟩) (fun b13 hb => ?_)
    refine H1 _ _ O ?_ _ _ _ _ _ _ _ _ _ _ _ _ _ _ hb ?_ P'.1
    · have := tx_ub (L := ch_L (fm_nf 0 b8 b9) cn') (fun j hj => (X2.2.1 _ (V'.1.2.2.2 j hj)).1)
      omega
    · rw [← W0]
      rfl
end
section
theorem wk_broken {post : Int32 → Prop} {Fpr Fwo Frw Ftu : Int32} {Fun : Int64} {Fco Ffw Fwc : Int32} {Fwt Fwb : Int64} {Fln Fem Fhh : Int32} {Fht Fhb : Int64} {Fhl : Int32} {Flt Flb : Int64} {Fbr Fl3 Fg3 : Int32} {A1 A2 A3 A4 A5 A6 A7 A8 A9 : Nat → Int32} {A10 : Nat → Int64} {A11 A12 : Nat → Int32} {A13 A14 A15 A16 A17 : Nat → Int64} {A18 A19 : Nat → Int32} {m : Nat} {R : Nat → Int} (hm : Frw = nI m) (hm16 : m ≤ 16) (hR : ∀ r, r < m → A10 (5 * r + 4) = am_L (R r) ∧ (R r).natAbs ≤ 172872000) (H0 : (∀ r, r < m → 0 ≤ R r) → post (-1)) (H1 : ∀ l, l < m → R l < 0 → post (nI l)) : wpX_brokenRow post (Fpr, Fwo, Frw, Ftu, Fun, Fco, Ffw, Fwc, Fwt, Fwb, Fln, Fem, Fhh, Fht, Fhb, Fhl, Flt, Flb, Fbr, Fl3, Fg3, A1, A2, A3, A4, A5, A6, A7, A8, A9, A10, A11, A12, A13, A14, A15, A16, A17, A18, A19) := by
  subst hm
  refine pk_loop (fun n i (s : Int32) => wX_brokenRow_4 post Fpr Fwo (nI m) Ftu Fun Fco Ffw Fwc Fwt Fwb Fln Fem Fhh Fht Fhb Fhl Flt Flb Fbr Fl3 Fg3 A1 A2 A3 A4 A5 A6 A7 A8 A9 A10 A11 A12 A13 A14 A15 A16 A17 A18 A19 n s (nI i)) (fun i s => (s = -1 ∧ ∀ r, r < i → 0 ≤ R r) ∨ (∃ b, b < i ∧ s = nI b ∧ R b < 0)) m 0 (-1) (by omega) (Or.inl ⟨rfl, fun r hr => absurd hr (by omega)⟩) ?_ ?_
  · intro n s h
    refine pk_le m m (fun _ => ?_) (fun z => absurd z (by omega))
    rcases h with ⟨e, h1⟩ | ⟨b, hb, e, h1⟩
    · rw [e]
      exact H0 h1
    · rw [e]
      exact H1 b hb h1
  · intro n i s hi h hk
    obtain ⟨e1, b1⟩ := hR i hi
    refine pk_le m i (fun z => absurd z (by omega)) (fun _ => ex_cellx rfl rfl (show i < 21 by omega) (show 4 < 5 by omega) ?_)
    rw [e1]
    refine ek_if (am_zg (am_Rabs b1 (by omega))) (fun z => nm_r (nI_1 i) (hk s ?_)) (fun z => ?_)
    · rcases h with ⟨e, h1⟩ | ⟨b, hb, e, h1⟩
      · exact Or.inl ⟨e, lt_s h1 z⟩
      · exact Or.inr ⟨b, by omega, e, h1⟩
    · have new : wX_brokenRow_4 post Fpr Fwo (nI m) Ftu Fun Fco Ffw Fwc Fwt Fwb Fln Fem Fhh Fht Fhb Fhl Flt Flb Fbr Fl3 Fg3 A1 A2 A3 A4 A5 A6 A7 A8 A9 A10 A11 A12 A13 A14 A15 A16 A17 A18 A19 n (nI i) (nI (i + 1)) := hk (nI i) (Or.inr ⟨i, by omega, rfl, by omega⟩)
      rcases h with ⟨e, h1⟩ | ⟨b, hb, e, h1⟩
      · rw [e]
        exact br_t (by decide) (nm_r (nI_1 i) new)
      · rw [e]
        exact br_f (nI_pos (by omega)) ⟨pk_in i 16 (by omega), pk_in b 16 (by omega), br_c (fun _ => nm_r (nI_1 i) (hk (nI b) (Or.inr ⟨b, by omega, rfl, h1⟩))) (fun _ => nm_r (nI_1 i) new)⟩
theorem wk_loses {post : Int32 → Prop} {Fpr Fwo Frw Ftu : Int32} {Fun : Int64} {Fco Ffw Fwc : Int32} {Fwt Fwb : Int64} {Fln Fem Fhh : Int32} {Fht Fhb : Int64} {Fhl : Int32} {Flt Flb : Int64} {Fbr Fl3 Fg3 : Int32} {A1 A2 A3 A4 A5 A6 A7 A8 A9 : Nat → Int32} {A10 : Nat → Int64} {A11 A12 : Nat → Int32} {A13 A14 A15 A16 A17 : Nat → Int64} {A18 A19 : Nat → Int32} {m c d row : Nat} {vc vd : Nat → Int} {gc gd : Int} (hfw : Ffw = nI m) (hwc : Fwc = nI 4) (hm : m ≤ 13) (hc : c < 4) (hd : d < 4) (hrow : row < 16) (hvc : ∀ w, w < 4 → A10 (5 * (m + w) + c) = am_L (vc w) ∧ (vc w).natAbs ≤ 57624) (hvd : ∀ w, w < 4 → A10 (5 * (m + w) + d) = am_L (vd w) ∧ (vd w).natAbs ≤ 57624) (hgc : A10 (5 * row + c) = am_L gc ∧ gc.natAbs ≤ 57624) (hgd : A10 (5 * row + d) = am_L gd ∧ gd.natAbs ≤ 57624)
    (H1 : ¬ lx_N (fun w => vd w * -gc - vc w * -gd) → post 1) (H0 : ¬ lx_N (fun w => vc w * -gd - vd w * -gc) → post 0) : wpX_losesLess post (Fpr, Fwo, Frw, Ftu, Fun, Fco, Ffw, Fwc, Fwt, Fwb, Fln, Fem, Fhh, Fht, Fhb, Fhl, Flt, Flb, Fbr, Fl3, Fg3, A1, A2, A3, A4, A5, A6, A7, A8, A9, A10, A11, A12, A13, A14, A15, A16, A17, A18, A19) (nI c) (nI d) (nI row) := by
  subst hfw hwc
  unfold wpX_losesLess
  refine ex_cell (r := row) (c := c) (by omega) (by omega) ?_
  rw [hgc.1]
  refine nm_r (am_Lneg gc) (ex_cell (r := row) (c := d) (by omega) (by omega) ?_)
  rw [hgd.1]
  refine nm_r (am_Lneg gd) ?_
  refine pk_loop (σ := Unit) (fun n w _ => wX_losesLess_21 post (nI c) (nI d) (am_L (-gc)) (am_L (-gd)) Fpr Fwo Frw Ftu Fun Fco (nI m) (nI 4) Fwt Fwb Fln Fem Fhh Fht Fhb Fhl Flt Flb Fbr Fl3 Fg3 A1 A2 A3 A4 A5 A6 A7 A8 A9 A10 A11 A12 A13 A14 A15 A16 A17 A18 A19 n (nI w)) (fun w _ => ∀ k, k < w → vc k * -gd = vd k * -gc) 4 0 () (by omega) (fun k hk => absurd hk (by omega)) ?_ ?_
  · intro n _ h
    refine pk_le 4 4 (fun _ => ⟨pk_in c 4 hc, pk_in d 4 hd, br_c (fun _ => H0 (lx_zero (fun w hw => ?_))) (fun _ => H1 (lx_zero (fun w hw => ?_)))⟩) (fun z => absurd z (by omega))
    · have := h w hw
      try dsimp only
      omega
    · have := h w hw
      try dsimp only
      omega
  · intro n w _ hw h hk
    obtain ⟨ec, bc⟩ := hvc w hw
    obtain ⟨ed, bd⟩ := hvd w hw
    have r1 := am_abs bc (show (-gd).natAbs ≤ 57624 by have := hgd.2; omega)
    have r2 := am_abs bd (show (-gc).natAbs ≤ 57624 by have := hgc.2; omega)
    refine pk_le 4 w (fun z => absurd z (by omega)) (fun _ => ex_cellx (nI_add m w) rfl (by omega) (by omega) ?_)
    rw [ec]
    refine nm_r (am_Lmul _ _) (ex_cellx (nI_add m w) rfl (by omega) (by omega) ?_)
    rw [ed]
    refine nm_r (am_Lmul _ _) (ek_if (am_Leq (am_Rabs r1 (by omega)) (am_Rabs r2 (by omega))) (fun z => nm_r (nI_1 w) (hk () (lt_s h z))) (fun z => ?_))
    refine ek_if (am_Lle (am_Rabs r2 (by omega)) (am_Rabs r1 (by omega))) (fun y => H0 (fun q => ?_)) (fun y => H1 (fun q => ?_))
    · obtain ⟨w', hw', q1, q2⟩ := (hx_4 _).mpr q
      try dsimp only at q1 q2
      rcases Nat.lt_trichotomy w' w with g | g | g
      · have := h w' g
        omega
      · rw [g] at q1
        omega
      · have := q2 w g
        omega
    · obtain ⟨w', hw', q1, q2⟩ := (hx_4 _).mpr q
      try dsimp only at q1 q2
      rcases Nat.lt_trichotomy w' w with g | g | g
      · have := h w' g
        omega
      · rw [g] at q1
        omega
      · have := q2 w g
        omega
theorem dw_tr {a b c : Nat → Int} {ga gb gc : Int} (pa : 0 ≤ ga) (pb : 0 < gb) (pc : 0 ≤ gc) (h1 : ¬ lx_N (fun w => b w * gc - c w * gb)) (h2 : ¬ lx_N (fun w => a w * gb - b w * ga)) : ¬ lx_N (fun w => a w * gc - c w * ga) := by
  rw [← lx_pos pb (c := fun w => gb * (a w * gc - c w * ga)) (fun _ _ => rfl)]
  refine lx_add (lx_nn pc h2 (c := fun w => gc * (a w * gb - b w * ga)) (fun _ _ => rfl)) (lx_nn pa h1 (c := fun w => ga * (b w * gc - c w * gb)) (fun _ _ => rfl)) (fun w _ => ?_)
  try dsimp only
  grind
theorem dw_or : ∀ i : Fin 3, ∀ t : Fin 8, t.val < 2 ^ i.val → (nI t.val ||| ((1 : Int32) <<< (nI i.val &&& 31))) = nI (t.val + 2 ^ i.val) := by decide
theorem dw_bit : ∀ j : Fin 3, ∀ t : Fin 8, (((nI t.val >>> (nI j.val &&& 31)) &&& 1) = 0 ↔ t.val / 2 ^ j.val % 2 = 0) := by decide
/-- the first table loses in all columns, when the amounts begin where they are worth most -/
theorem dw_first {Ftu : Int32} {A5 A6 A7 b8 b9 : Nat → Int32} {m : Nat} (hm : m ≤ 13) (ht : ∀ j, j < 3 → (((Ftu >>> (nI j &&& 31)) &&& 1) = 0 ↔ (A7 j).toInt ≤ 0)) : du_V (fm_nf 0 b8 b9) (fm_wf Ftu A5 A6 A7) m (fm_Nm m) fm_rn fm_cn := by
  refine ⟨fm_C 0 b8 b9 hm, fun j hj => ?_⟩
  have e : ∀ w, w < 4 → (fun w => tb_T (ch_L (fm_nf 0 b8 b9) fm_cn) (fm_wf Ftu A5 A6 A7 w) j) w = if j = 3 then 0 else -(rw_sg Ftu j * fm_nm A7 w j) := by
    intro w hw
    try dsimp only
    rw [id_T (fm_id 0 b8 b9) _ hj, fm_wf, if_neg (show ¬ w = 4 by omega), if_neg (show ¬ j = 4 by omega)]
    split
    · decide
    · rfl
  have e0 := e 0 (by decide)
  have e1 := e 1 (by decide)
  have e2 := e 2 (by decide)
  have e3 := e 3 (by decide)
  unfold lx_N
  rw [e0, e1, e2, e3]
  by_cases g : j = 3
  · rw [if_pos g, if_pos g, if_pos g, if_pos g]
    omega
  · rw [if_neg g, if_neg g, if_neg g, if_neg g]
    have q := ht j (by omega)
    unfold rw_sg fm_nm
    by_cases z : ((Ftu >>> (nI j &&& 31)) &&& 1) = 0
    · rw [if_pos z]
      have := q.mp z
      have hj' : j = 0 ∨ j = 1 ∨ j = 2 := by omega
      rcases hj' with rfl | rfl | rfl <;> simp <;> omega
    · rw [if_neg z]
      have : 0 < (A7 j).toInt := by
        rcases am_lg 0 (A7 j).toInt with y | y
        · exact y
        · exact absurd (q.mpr y) z
      have hj' : j = 0 ∨ j = 1 ∨ j = 2 := by omega
      rcases hj' with rfl | rfl | rfl <;> simp <;> omega
theorem dw_nz {Ftu : Int32} {A5 A6 A7 : Nat → Int32} {L : Nat → Nat → Int} (hD : la_D L ≠ 0) (h3 : L 3 = la_e 3) {e : Nat} (he : e < 3) : ∃ w, w < 4 ∧ tb_T L (fm_wf Ftu A5 A6 A7 w) e ≠ 0 := by
  apply Classical.byContradiction
  intro no
  refine so_col hD h3 he (fun i hi => ?_)
  have z : tb_T L (fm_wf Ftu A5 A6 A7 (1 + i)) e = 0 := by
    apply Classical.byContradiction
    intro q
    exact no ⟨1 + i, by omega, q⟩
  rw [tb_Tlin] at z
  have hi' : i = 0 ∨ i = 1 ∨ i = 2 := by omega
  rcases hi' with rfl | rfl | rfl
  · simp [fm_wf, fm_nm] at z
    rcases rw_sgc Ftu 0 with q | q <;> rw [q] at z <;> omega
  · simp [fm_wf, fm_nm] at z
    rcases rw_sgc Ftu 1 with q | q <;> rw [q] at z <;> omega
  · simp [fm_wf, fm_nm] at z
    rcases rw_sgc Ftu 2 with q | q <;> rw [q] at z <;> omega
/-- the question is answered from the side of the worth -/
theorem sw_ok {post : Int32 → St1 → Prop} {Fpr Fwo Frw Ftu : Int32} {Fun : Int64} {Fco Ffw Fwc : Int32} {Fwt Fwb : Int64} {Fln Fem Fhh : Int32} {Fht Fhb : Int64} {Fhl : Int32} {Flt Flb : Int64} {Fbr Fl3 Fg3 : Int32} {A1 A2 A3 A4 A5 A6 A7 A8 A9 : Nat → Int32} {A10 : Nat → Int64} {A11 A12 : Nat → Int32} {A13 A14 A15 A16 A17 : Nat → Int64} {A18 A19 : Nat → Int32} (hA1 : ∀ j, j < 15 → (A1 j).toInt.natAbs ≤ 7) (hA3 : ∀ j, j < 5 → (A3 j).toInt.natAbs ≤ 99) (hbx : rw_box A5 A6) (hA7 : ∀ j, j < 3 → (A7 j).toInt.natAbs ≤ 7)
    (H0 : (∀ X q, ¬ so_F Fpr Fwo A1 A2 A3 A5 A6 X q) → ∀ (rq tu : Int32) (un : Int64) (co fw wc : Int32) (wt wb : Int64) (b8 b9 : Nat → Int32) (b10 : Nat → Int64) (b11 b12 : Nat → Int32) (b13 : Nat → Int64), post 0 (Fpr, Fwo, rq, tu, un, co, fw, wc, wt, wb, Fln, Fem, Fhh, Fht, Fhb, Fhl, Flt, Flb, Fbr, Fl3, Fg3, A1, A2, A3, A4, A5, A6, A7, b8, b9, b10, b11, b12, b13, A14, A15, A16, A17, A18, A19))
    (H1 : ∀ X q, so_O Fpr Fwo A1 A2 A3 A5 A6 A7 X q → q ≤ 57624 → ∀ (rq tu : Int32) (un : Int64) (co fw wc : Int32) (wt wb : Int64) (b8 b9 : Nat → Int32) (b10 : Nat → Int64) (b11 b12 : Nat → Int32) (b13 : Nat → Int64), (∀ i, i < 3 → b13 i = am_L (X i)) → wt = am_L (so_W A7 X 0) → wb = am_L q → post 1 (Fpr, Fwo, rq, tu, un, co, fw, wc, wt, wb, Fln, Fem, Fhh, Fht, Fhb, Fhl, Flt, Flb, Fbr, Fl3, Fg3, A1, A2, A3, A4, A5, A6, A7, b8, b9, b10, b11, b12, b13, A14, A15, A16, A17, A18, A19)) : wpX_solveByWorth post (Fpr, Fwo, Frw, Ftu, Fun, Fco, Ffw, Fwc, Fwt, Fwb, Fln, Fem, Fhh, Fht, Fhb, Fhl, Flt, Flb, Fbr, Fl3, Fg3, A1, A2, A3, A4, A5, A6, A7, A8, A9, A10, A11, A12, A13, A14, A15, A16, A17, A18, A19) := by
  refine pk_loop (fun n i (tu : Int32) => wX_solveByWorth_7 post Fpr Fwo Frw Fun Fco Ffw Fwc Fwt Fwb Fln Fem Fhh Fht Fhb Fhl Flt Flb Fbr Fl3 Fg3 A1 A2 A3 A4 A5 A6 A7 A8 A9 A10 A11 A12 A13 A14 A15 A16 A17 A18 A19 n (nI i) tu) (fun i tu => ∃ t, t < 2 ^ i ∧ tu = nI t ∧ ∀ j, j < i → (t / 2 ^ j % 2 = 0 ↔ (A7 j).toInt ≤ 0)) 3 0 0 (by omega) ⟨0, by decide, rfl, fun j hj => absurd hj (by omega)⟩ ?_ ?_
  rotate_left
  · intro n i tu hi ⟨t, ht, et, hb⟩ hk
    have hi' : i = 0 ∨ i = 1 ∨ i = 2 := by omega
    refine pk_le 3 i (fun z => absurd z (by omega)) (fun _ => ⟨pk_in i 3 hi, ?_⟩)
    rw [nI_clamp (show i < 2 ^ 31 by omega), am_Iof (A7 i)]
    refine ek_if (am_Ile (am_IR3 _) (b := 0) ⟨by omega, by omega⟩) (fun z => nm_r (e' := nI t) ?_ (nm_r (nI_1 i) (hk (nI t) ⟨t, ?_, rfl, ?_⟩))) (fun z => nm_r (e' := nI (t + 2 ^ i)) ?_ (nm_r (nI_1 i) (hk (nI (t + 2 ^ i)) ⟨t + 2 ^ i, ?_, rfl, ?_⟩)))
    · rw [et]
      simp
    · rcases hi' with rfl | rfl | rfl <;> omega
    · refine lt_s hb ?_
      rcases hi' with rfl | rfl | rfl <;> simp at ht ⊢ <;> omega
    · rw [et]
      exact dw_or ⟨i, hi⟩ ⟨t, by rcases hi' with rfl | rfl | rfl <;> omega⟩ ht
    · rcases hi' with rfl | rfl | rfl <;> omega
    · refine lt_s (fun j hj => ?_) ?_
      · rw [← hb j hj]
        have hj' : j = 0 ∨ j = 1 := by omega
        rcases hi' with rfl | rfl | rfl <;> rcases hj' with rfl | rfl <;> omega
      · rcases hi' with rfl | rfl | rfl <;> simp at ht ⊢ <;> omega
  · intro n tu ⟨t, ht, et, hb⟩
    have tbit : ∀ j, j < 3 → (((tu >>> (nI j &&& 31)) &&& 1) = 0 ↔ (A7 j).toInt ≤ 0) := by
      intro j hj
      rw [et, ← hb j hj]
      exact dw_bit ⟨j, hj⟩ ⟨t, by omega⟩
    refine pk_le 3 3 (fun _ => ?_) (fun z => absurd z (by omega))
    refine rw_write hA1 hA3 hbx (fun m b8 b9 hr => ?_)
    obtain ⟨r1, r2, r3, r4, r5, r6⟩ := id hr
    have hm : m + 3 ≤ 13 := by omega
    refine sz_ok (m := m + 3) hm rfl hbx hA7 (fun s b11 b12 h1 h2 h3 h4 => ?_)
    have X2 : cb_ctx (fm_nf 0 b8 b9) (fm_wf2 tu A5 A6 A7) (fm_wf tu A5 A6 A7) (m + 3) (m + 3) 4 3 (fm_Nm (m + 3)) := fm_x2 hm r2 r3 hbx hA7
    have P0 := fm_pic2 hm h1 h2 h3 h4
    have V0 : du_V (fm_nf 0 b8 b9) (fm_wf tu A5 A6 A7) (m + 3) (fm_Nm (m + 3)) fm_rn fm_cn := dw_first hm tbit
    refine pk_loop (fun n i (s : Int64 × (Nat → Int64) × (Nat → Int32) × (Nat → Int32)) => wX_solveByWorth_53 post n (nI i) Fpr Fwo (nI (m + 3)) tu (s.1) 3 (nI (m + 3)) 4 Fwt Fwb Fln Fem Fhh Fht Fhb Fhl Flt Flb Fbr Fl3 Fg3 A1 A2 A3 A4 A5 A6 A7 b8 b9 (s.2.1) (s.2.2.1) (s.2.2.2) A13 A14 A15 A16 A17 A18 A19) (fun i s => ∃ rn cn, cb_pic (fm_nf 0 b8 b9) (fm_wf2 tu A5 A6 A7) (m + 3) (m + 3 + 4) 3 rn cn s.1 s.2.1 s.2.2.1 s.2.2.2 ∧ ch_at (du_V (fm_nf 0 b8 b9) (fm_wf tu A5 A6 A7) (m + 3) (fm_Nm (m + 3))) (du_P (fm_nf 0 b8 b9) (fm_wf tu A5 A6 A7) (m + 3)) i rn cn) 100000 0 (1, s, b11, b12) (by omega) ⟨fm_rn, fm_cn, P0, ch_zero V0⟩ ?_ ?_
    · intro n s ⟨rn, cn, _, h⟩
      have := du_bound (fun n hn => (X2.2.1 n hn).2) h
      exact absurd this (by omega)
    · intro n i s hi ⟨rn, cn, hq, hch⟩ hk
      obtain ⟨un, a10, a11, a12⟩ := s
      have hV : du_V (fm_nf 0 b8 b9) (fm_wf tu A5 A6 A7) (m + 3) (fm_Nm (m + 3)) rn cn := by
        obtain ⟨rs, cs, ls, es, ⟨h1, _⟩, e1, e2⟩ := hch
        rw [← e1, ← e2]
        exact h1 i (Nat.le_refl i)
      obtain ⟨x1, x2, x3, x4, x5⟩ := id X2
      obtain ⟨⟨c1, c2, c3, c4⟩, cT⟩ := id hV
      obtain ⟨k3, kj, kr⟩ := hq.2.2.2.2 rfl
      have e3 : ch_L (fm_nf 0 b8 b9) cn 3 = la_e 3 := by
        unfold ch_L
        rw [k3, fm_n99]
      have tF : ∀ j, j < 4 → tx_F (ch_L (fm_nf 0 b8 b9) cn j) := fun j hj => (x2 _ (c4 j hj)).1
      refine pk_le 100000 i (fun z => absurd z (by omega)) (fun _ => wk_broken (m := m + 3) (R := fun r => tb_R (ch_L (fm_nf 0 b8 b9) cn) (fm_nf 0 b8 b9 (rn r))) rfl (by omega) (fun r hr' => ?_) (fun good => ?_) (fun l hl hRl => ?_))
      · have q := (hq.2.1 r (by omega)).2
        rw [cb_rf1 hr'] at q
        exact ⟨q, tx_Rb tF (x2 _ (c3 r hr')).1⟩
      · obtain ⟨O, W0⟩ := so_best hr k3 ⟨hV.1, good⟩ cT
        refine br_f (by decide) (wk_readoff X2 hq hV.1 rfl rfl (by omega) (fun i hi => ⟨Or.inl (by omega), fm_nam _ _ _ hi⟩) (fun b13 hb => ?_))
        refine H1 _ _ O ?_ _ _ _ _ _ _ _ _ _ _ _ _ _ _ hb ?_ hq.1
        · have := tx_ub tF
          omega
        · rw [← W0]
          rfl
      · refine br_t (nI_pos' (by omega)) ?_
        have hg : ∀ c, c < 4 → a10 (5 * l + c) = am_L (tb_T (ch_L (fm_nf 0 b8 b9) cn) (fm_nf 0 b8 b9 (rn l)) c) ∧ (tb_T (ch_L (fm_nf 0 b8 b9) cn) (fm_nf 0 b8 b9 (rn l)) c).natAbs ≤ 57624 := by
          intro c hc
          have q := (hq.2.1 l (by omega)).1 c hc
          rw [cb_rf1 hl] at q
          exact ⟨q, tx_Tb tF (x2 _ (c3 l hl)).1 c⟩
        have t3 : tb_T (ch_L (fm_nf 0 b8 b9) cn) (fm_nf 0 b8 b9 (rn l)) 3 = 0 := cb_z3 X2 hq rfl (fm_03 _ _ (kr l hl))
        refine pk_loop (fun n' c (x : Int32) => wX_solveByWorth_79 post (wX_solveByWorth_53 post n) (nI i) (nI l) Fpr Fwo (nI (m + 3)) tu un 3 (nI (m + 3)) 4 Fwt Fwb Fln Fem Fhh Fht Fhb Fhl Flt Flb Fbr Fl3 Fg3 A1 A2 A3 A4 A5 A6 A7 b8 b9 a10 a11 a12 A13 A14 A15 A16 A17 A18 A19 n' x (nI c)) (fun c x => (x = -1 ∧ ∀ j, j < c → 0 ≤ tb_T (ch_L (fm_nf 0 b8 b9) cn) (fm_nf 0 b8 b9 (rn l)) j) ∨ (∃ e, e < c ∧ x = nI e ∧ tb_T (ch_L (fm_nf 0 b8 b9) cn) (fm_nf 0 b8 b9 (rn l)) e < 0 ∧ ∀ j, j < c → tb_T (ch_L (fm_nf 0 b8 b9) cn) (fm_nf 0 b8 b9 (rn l)) j < 0 → ¬ lx_N (fun w => tb_T (ch_L (fm_nf 0 b8 b9) cn) (fm_wf tu A5 A6 A7 w) j * -(tb_T (ch_L (fm_nf 0 b8 b9) cn) (fm_nf 0 b8 b9 (rn l)) e) - tb_T (ch_L (fm_nf 0 b8 b9) cn) (fm_wf tu A5 A6 A7 w) e * -(tb_T (ch_L (fm_nf 0 b8 b9) cn) (fm_nf 0 b8 b9 (rn l)) j)))) 3 0 (-1) (by omega) (Or.inl ⟨rfl, fun j hj => absurd hj (by omega)⟩) ?_ ?_
        · intro n' x hxx
          refine pk_le 3 3 (fun _ => ?_) (fun z => absurd z (by omega))
          rcases hxx with ⟨e, hT⟩ | ⟨e, he, ee, hTe, hmin⟩
          · rw [e]
            refine br_f (by decide) (H0 (fun X q hF => ?_) _ _ _ _ _ _ _ _ _ _ _ _ _ _)
            have hN := (so_names hr 0 X q hF.1).mp hF
            have := oq_inf (L := ch_L (fm_nf 0 b8 b9) cn) (f := fm_nf 0 b8 b9 (rn l)) (y := so_y tu A5 A6 X q) c1 hRl (fun j hj => by
              rcases Nat.lt_or_ge j 3 with y | y
              · exact hT j y
              · rw [show j = 3 by omega, t3]
                exact Int.le_refl 0) (fun j hj => hN _ (c4 j hj)) hF.1
            have := hN _ (c3 l hl)
            omega
          · rw [ee]
            have P : du_P (fm_nf 0 b8 b9) (fm_wf tu A5 A6 A7) (m + 3) rn cn l e := ⟨hl, by omega, hRl, hTe, fun j hj hj0 => by
              rcases Nat.lt_or_ge j 3 with y | y
              · exact hmin j y hj0
              · rw [show j = 3 by omega, t3] at hj0
                omega, dw_nz c1 e3 he⟩
            refine br_t (nI_pos' (by omega)) (cb_exchange X2 hq hV.1 rfl rfl rfl hl he (by omega) (fun un' s' d11 d12 hq' => nm_r (nI_1 i) (hk (un', s', d11, d12) ⟨_, _, hq', ch_more hch P (du_next hV P)⟩)))
        · intro n' c x hc hxx hk'
          have hc4 : c < 4 := by omega
          refine pk_le 3 c (fun z => absurd z (by omega)) (fun _ => ex_cell (show l < 21 by omega) (show c < 5 by omega) ?_)
          obtain ⟨eg, bg⟩ := hg c hc4
          rw [eg]
          refine ek_if (am_zg (am_Rabs bg (by omega))) (fun z => nm_r (nI_1 c) (hk' x ?_)) (fun z => ?_)
          · rcases hxx with ⟨e, hT⟩ | ⟨e, he, ee, hTe, hmin⟩
            · exact Or.inl ⟨e, lt_s hT z⟩
            · exact Or.inr ⟨e, by omega, ee, hTe, lt_s hmin (fun y => absurd z (by omega))⟩
          · have tc : tb_T (ch_L (fm_nf 0 b8 b9) cn) (fm_nf 0 b8 b9 (rn l)) c < 0 := by omega
            rcases hxx with ⟨e, hT⟩ | ⟨e, he, ee, hTe, hmin⟩
            · rw [e]
              refine br_t (by decide) (nm_r (nI_1 c) (hk' (nI c) (Or.inr ⟨c, by omega, rfl, tc, lt_s (fun j hj y => absurd (hT j hj) (by omega)) (fun _ => lx_zero (fun w _ => ?_))⟩)))
              try dsimp only
              omega
            · rw [ee]
              obtain ⟨eg', bg'⟩ := hg e (by omega)
              refine br_f (nI_pos (by omega)) (wk_loses (m := m + 3) (c := c) (d := e) (row := l) (vc := fun w => tb_T (ch_L (fm_nf 0 b8 b9) cn) (fm_wf tu A5 A6 A7 w) c) (vd := fun w => tb_T (ch_L (fm_nf 0 b8 b9) cn) (fm_wf tu A5 A6 A7 w) e) rfl rfl (by omega) hc4 (by omega) (by omega) (fun w hw => cb_cost X2 hq hV.1 hc4 hw) (fun w hw => cb_cost X2 hq hV.1 (by omega) hw) ⟨eg, bg⟩ ⟨eg', bg'⟩ (fun y => br_f (by decide) (nm_r (nI_1 c) (hk' (nI c) (Or.inr ⟨c, by omega, rfl, tc, lt_s (fun j hj yj => ?_) (fun _ => lx_zero (fun w _ => ?_))⟩)))) (fun y => br_t rfl (nm_r (nI_1 c) (hk' (nI e) (Or.inr ⟨e, by omega, rfl, hTe, lt_s hmin (fun _ => y)⟩)))))
              · exact dw_tr (b := fun w => tb_T (ch_L (fm_nf 0 b8 b9) cn) (fm_wf tu A5 A6 A7 w) e) (gb := -(tb_T (ch_L (fm_nf 0 b8 b9) cn) (fm_nf 0 b8 b9 (rn l)) e)) (by omega) (by omega) (by omega) y (hmin j hj yj)
              · try dsimp only
                omega
end
section
/-- the common divisor, 1 when both are 0 -/
def dv_g (a b : Int) : Nat := if Nat.gcd a.natAbs b.natAbs = 0 then 1 else Nat.gcd a.natAbs b.natAbs
theorem dv_pos (a b : Int) : 1 ≤ dv_g a b := by
  unfold dv_g
  split
  · omega
  · omega
theorem dv_l (a b : Int) : ∃ c, a = (dv_g a b : Int) * c := by
  unfold dv_g
  split
  · exact ⟨a, by omega⟩
  · obtain ⟨c, hc⟩ : (Nat.gcd a.natAbs b.natAbs : Int) ∣ a := Int.ofNat_dvd_left.mpr (Nat.gcd_dvd_left _ _)
    exact ⟨c, hc⟩
theorem dv_r (a b : Int) : ∃ c, b = (dv_g a b : Int) * c := by
  unfold dv_g
  split
  · exact ⟨b, by omega⟩
  · obtain ⟨c, hc⟩ : (Nat.gcd a.natAbs b.natAbs : Int) ∣ b := Int.ofNat_dvd_left.mpr (Nat.gcd_dvd_right _ _)
    exact ⟨c, hc⟩
theorem dv_loop {post : Int64 → Prop} {x y : Nat} (hx : x < 2 ^ 62) (hy : y < 2 ^ 62) (H : post (lN (if Nat.gcd x y = 0 then 1 else Nat.gcd x y))) : ∃ n, wX_divisor_28 post n (lN x) (lN y) := by
  refine loop_m (fun n (s : Nat × Nat) => wX_divisor_28 post n (lN s.1) (lN s.2)) (fun s => s.1 < 2 ^ 62 ∧ s.2 < 2 ^ 62 ∧ Nat.gcd s.1 s.2 = Nat.gcd x y) (fun s => s.2) ?_ (x, y) ⟨hx, hy, rfl⟩
  intro n s ⟨h1, h2, h3⟩ hk
  obtain ⟨a, b⟩ := s
  try dsimp only at h1 h2 h3
  have zb : lN b = 0 ↔ b = 0 := pk_lEQ (b := 0) (by omega) (by omega)
  have za : lN a = 0 ↔ a = 0 := pk_lEQ (b := 0) (by omega) (by omega)
  refine ek_if zb (fun z => ek_if za (fun ya => ?_) (fun ya => ?_)) (fun z => ⟨fun q => z (zb.mp q), nm_r (pk_lRem (by omega) (by omega) (by omega)) (hk (b, a % b) ⟨h2, ?_, ?_⟩ ?_)⟩)
  · have e : Nat.gcd x y = 0 := by
      rw [← h3, z, ya]
      rfl
    rw [e, if_pos rfl] at H
    exact H
  · have e : Nat.gcd x y = a := by
      rw [← h3, z, Nat.gcd_zero_right]
    rw [e, if_neg ya] at H
    exact H
  · show a % b < 2 ^ 62
    have := Nat.mod_lt a (show 0 < b by omega)
    omega
  · show Nat.gcd b (a % b) = Nat.gcd x y
    rw [← h3, Nat.gcd_comm b, ← Nat.gcd_rec, Nat.gcd_comm]
  · show a % b < b
    exact Nat.mod_lt a (by omega)
theorem dv_abs {a : Int} (h : a.natAbs < 2 ^ 62) {A B : Prop} (f : 0 ≤ a → am_L a = lN a.natAbs → A) (g : a < 0 → am_L (-a) = lN a.natAbs → B) : (0 ≤ am_L a → A) ∧ (¬ 0 ≤ am_L a → B) := by
  refine ek_if (am_zg ⟨by omega, by omega⟩) (fun z => f z ?_) (fun z => g (by omega) ?_)
  · rw [am_lN]
    congr 1
    omega
  · rw [am_lN]
    congr 1
    omega
theorem dv_ok {post : Int64 → Prop} {a b : Int} (ha : a.natAbs < 2 ^ 62) (hb : b.natAbs < 2 ^ 62) (H : post (am_L (dv_g a b : Int))) : wpX_divisor post () (am_L a) (am_L b) := by
  have H' : post (lN (if Nat.gcd a.natAbs b.natAbs = 0 then 1 else Nat.gcd a.natAbs b.natAbs)) := by
    rw [am_lN]
    exact H
  have two : ∀ z : Int64, z = lN a.natAbs → wX_divisor_12 post (am_L b) z := by
    intro z ez
    rw [ez]
    refine dv_abs hb (fun _ e => ?_) (fun _ e => nm_r (am_Lneg b) ?_)
    · rw [e]
      exact dv_loop ha hb H'
    · rw [e]
      exact dv_loop ha hb H'
  exact dv_abs ha (fun _ e => two _ e) (fun _ e => two _ (by rw [am_Lneg]; exact e))
/-- an inequality among the lines -/
def fl_at (A14 A15 A16 A17 : Nat → Int64) (k : Nat) (W P Q q : Int) : Prop := (A14 k).toInt * W + (A15 k).toInt * P + (A16 k).toInt * Q ≤ (A17 k).toInt * q
def al_new (A14 A15 A16 A17 : Nat → Int64) (n : Nat) (w f s b : Int) (n' : Nat) (c14 c15 c16 c17 : Nat → Int64) : Prop :=
  n ≤ n' ∧ n' ≤ n + 1 ∧ (∀ k, k < n → c14 k = A14 k ∧ c15 k = A15 k ∧ c16 k = A16 k ∧ c17 k = A17 k) ∧
  ∃ (k : Nat) (g : Int), k < n' ∧ (n' = n + 1 → k = n) ∧ 1 ≤ g ∧ w = g * (c14 k).toInt ∧ f = g * (c15 k).toInt ∧ s = g * (c16 k).toInt ∧ b = g * (c17 k).toInt
theorem al_sem {A14 A15 A16 A17 : Nat → Int64} {n : Nat} {w f s b : Int} {n' : Nat} {c14 c15 c16 c17 : Nat → Int64} (h : al_new A14 A15 A16 A17 n w f s b n' c14 c15 c16 c17) (W P Q q : Int) : (∀ k, k < n' → fl_at c14 c15 c16 c17 k W P Q q) ↔ (∀ k, k < n → fl_at A14 A15 A16 A17 k W P Q q) ∧ w * W + f * P + s * Q ≤ b * q := by
  obtain ⟨h1, h2, h3, k, g, hk, hkn, hg, ew, ef, es, eb⟩ := h
  have old : ∀ j, j < n → (fl_at c14 c15 c16 c17 j W P Q q ↔ fl_at A14 A15 A16 A17 j W P Q q) := by
    intro j hj
    obtain ⟨a, b, c, d⟩ := h3 j hj
    unfold fl_at
    rw [a, b, c, d]
  have new : fl_at c14 c15 c16 c17 k W P Q q ↔ w * W + f * P + s * Q ≤ b * q := by
    unfold fl_at
    rw [ew, ef, es, eb]
    generalize (c14 k).toInt = x14
    generalize (c15 k).toInt = x15
    generalize (c16 k).toInt = x16
    generalize (c17 k).toInt = x17
    have e : g * x14 * W + g * x15 * P + g * x16 * Q = g * (x14 * W + x15 * P + x16 * Q) := by grind
    have e2 : g * x17 * q = g * (x17 * q) := by grind
    rw [e, e2]
    constructor
    · intro z
      exact Int.mul_le_mul_of_nonneg_left z (by omega)
    · intro z
      exact Int.le_of_mul_le_mul_left z (by omega)
  constructor
  · intro h
    exact ⟨fun j hj => (old j hj).mp (h j (by omega)), new.mp (h k hk)⟩
  · intro ⟨ha, hb⟩ j hj
    rcases Nat.lt_or_ge j n with z | z
    · exact (old j z).mpr (ha j z)
    · have := hkn (by omega)
      rw [show j = k by omega]
      exact new.mpr hb
/-- how great the numbers of n lines are -/
def fl_b (A14 A15 A16 A17 : Nat → Int64) (n Bw Bf Bs Bb : Nat) : Prop := ∀ k, k < n → (A14 k).toInt.natAbs ≤ Bw ∧ (A15 k).toInt.natAbs ≤ Bf ∧ (A16 k).toInt.natAbs ≤ Bs ∧ (A17 k).toInt.natAbs ≤ Bb
theorem al_le {g x w : Int} {B : Nat} (hg : 1 ≤ g) (e : w = g * x) (h : w.natAbs ≤ B) : x.natAbs ≤ B := by
  have : w.natAbs = g.natAbs * x.natAbs := by rw [e, Int.natAbs_mul]
  have : 1 * x.natAbs ≤ g.natAbs * x.natAbs := Nat.mul_le_mul_right _ (by omega)
  omega
theorem al_b {A14 A15 A16 A17 : Nat → Int64} {n : Nat} {w f s b : Int} {n' : Nat} {c14 c15 c16 c17 : Nat → Int64} {Bw Bf Bs Bb : Nat} (h : al_new A14 A15 A16 A17 n w f s b n' c14 c15 c16 c17) (hb : fl_b A14 A15 A16 A17 n Bw Bf Bs Bb) (h1 : w.natAbs ≤ Bw) (h2 : f.natAbs ≤ Bf) (h3 : s.natAbs ≤ Bs) (h4 : b.natAbs ≤ Bb) : fl_b c14 c15 c16 c17 n' Bw Bf Bs Bb := by
  obtain ⟨g1, g2, g3, k, g, hk, hkn, hg, ew, ef, es, eb⟩ := h
  intro j hj
  rcases Nat.lt_or_ge j n with z | z
  · obtain ⟨a, b, c, d⟩ := g3 j z
    rw [a, b, c, d]
    exact hb j z
  · have := hkn (by omega)
    rw [show j = k by omega]
    exact ⟨al_le hg ew h1, al_le hg ef h2, al_le hg es h3, al_le hg eb h4⟩
theorem al_ok {post : St1 → Prop} {Fpr Fwo Frw Ftu : Int32} {Fun : Int64} {Fco Ffw Fwc : Int32} {Fwt Fwb : Int64} {Fln Fem Fhh : Int32} {Fht Fhb : Int64} {Fhl : Int32} {Flt Flb : Int64} {Fbr Fl3 Fg3 : Int32} {A1 A2 A3 A4 A5 A6 A7 A8 A9 : Nat → Int32} {A10 : Nat → Int64} {A11 A12 : Nat → Int32} {A13 A14 A15 A16 A17 : Nat → Int64} {A18 A19 : Nat → Int32} {n : Nat} {w f s b : Int} (hn : Fln = nI n) (hn5 : n < 512) (hw : w.natAbs < 2 ^ 61) (hf : f.natAbs < 2 ^ 61) (hs : s.natAbs < 2 ^ 61) (hb : b.natAbs < 2 ^ 61)
    (H : ∀ n' c14 c15 c16 c17, al_new A14 A15 A16 A17 n w f s b n' c14 c15 c16 c17 → post (Fpr, Fwo, Frw, Ftu, Fun, Fco, Ffw, Fwc, Fwt, Fwb, (nI n'), Fem, Fhh, Fht, Fhb, Fhl, Flt, Flb, Fbr, Fl3, Fg3, A1, A2, A3, A4, A5, A6, A7, A8, A9, A10, A11, A12, A13, c14, c15, c16, c17, A18, A19)) : wpX_addLine post (Fpr, Fwo, Frw, Ftu, Fun, Fco, Ffw, Fwc, Fwt, Fwb, Fln, Fem, Fhh, Fht, Fhb, Fhl, Flt, Flb, Fbr, Fl3, Fg3, A1, A2, A3, A4, A5, A6, A7, A8, A9, A10, A11, A12, A13, A14, A15, A16, A17, A18, A19) (am_L w) (am_L f) (am_L s) (am_L b) := by
  subst hn
  have big : ∀ a b : Int, a.natAbs < 2 ^ 61 → b.natAbs < 2 ^ 61 → ((dv_g a b : Nat) : Int).natAbs < 2 ^ 61 := by
    intro a b ha hb
    obtain ⟨c, hc⟩ := dv_l a b
    obtain ⟨d, hd⟩ := dv_r a b
    unfold dv_g at *
    split at hc
    · rw [if_pos (by assumption)]
      omega
    · rename_i hz
      rw [if_neg hz]
      have l := Nat.gcd_le_left b.natAbs (m := a.natAbs)
      have r := Nat.gcd_le_right a.natAbs (n := b.natAbs)
      by_cases z : a.natAbs = 0
      · have z2 : b.natAbs ≠ 0 := by
          intro q
          apply hz
          rw [z, q]
          rfl
        have := Nat.gcd_le_right a.natAbs (n := b.natAbs) (by omega)
        omega
      · have := Nat.gcd_le_left b.natAbs (m := a.natAbs) (by omega)
        omega
  have b1 := big w f hw hf
  have b2 := big _ s b1 hs
  have b3 := big _ b b2 hb
  unfold wpX_addLine
  refine dv_ok (by omega) (by omega) (dv_ok (by omega) (by omega) (dv_ok (by omega) (by omega) ?_))
  obtain ⟨w1, ew1⟩ := dv_l w f
  obtain ⟨f1, ef1⟩ := dv_r w f
  obtain ⟨w2, ew2⟩ := dv_l (dv_g w f) s
  obtain ⟨s2, es2⟩ := dv_r (dv_g w f) s
  obtain ⟨w3, ew3⟩ := dv_l (dv_g (dv_g w f) s) b
  obtain ⟨b3', eb3⟩ := dv_r (dv_g (dv_g w f) s) b
  have gp := dv_pos (dv_g (dv_g w f) s) b
  generalize dv_g (dv_g (dv_g w f) s) b = g at *
  have dw : w = (g : Int) * (w3 * w2 * w1) := by
    rw [ew1, ew2, ew3]
    grind
  have df : f = (g : Int) * (w3 * w2 * f1) := by
    rw [ef1, ew2, ew3]
    grind
  have ds : s = (g : Int) * (w3 * s2) := by
    rw [es2, ew3]
    grind
  have gz : am_L (g : Int) = 0 ↔ (g : Int) = 0 := am_z0 ⟨by omega, by omega⟩
  have gn : ¬ am_L (g : Int) = 0 := fun q => by
    have := gz.mp q
    omega
  have gR : am_R (g : Int) := ⟨by omega, by omega⟩
  have dq : ∀ x y : Int, x.natAbs < 2 ^ 61 → x = (g : Int) * y → am_L x / am_L (g : Int) = am_L y := by
    intro x y hx e
    rw [am_Ldiv ⟨by omega, by omega⟩ gR, e, am_tdiv (by omega)]
  have sm : ∀ x y : Int, x.natAbs < 2 ^ 61 → x = (g : Int) * y → (am_L y).toInt = y := by
    intro x y hx e
    have := al_le (B := 2 ^ 61) (show (1 : Int) ≤ g by omega) e (by omega)
    exact am_Lint ⟨by omega, by omega⟩
  refine br_f gn ⟨gn, nm_r (dq _ _ hw dw) ⟨gn, nm_r (dq _ _ hf df) ⟨gn, nm_r (dq _ _ hs ds) ⟨gn, nm_r (dq _ _ hb eb3) ?_⟩⟩⟩⟩
  refine pk_loop (σ := Unit) (fun m k _ => wX_addLine_62 post (am_L (w3 * w2 * w1)) (am_L (w3 * w2 * f1)) (am_L (w3 * s2)) (am_L b3') Fpr Fwo Frw Ftu Fun Fco Ffw Fwc Fwt Fwb (nI n) Fem Fhh Fht Fhb Fhl Flt Flb Fbr Fl3 Fg3 A1 A2 A3 A4 A5 A6 A7 A8 A9 A10 A11 A12 A13 A14 A15 A16 A17 A18 A19 m (nI k)) (fun _ _ => True) n 0 () (by omega) trivial ?_ ?_
  · intro m _ _
    refine pk_le n n (fun _ => ⟨pk_in n 512 hn5, nm_r (by rw [nI_clamp (show n < 2 ^ 31 by omega)]) ⟨pk_in n 512 hn5, nm_r (by rw [nI_clamp (show n < 2 ^ 31 by omega)]) ⟨pk_in n 512 hn5, nm_r (by rw [nI_clamp (show n < 2 ^ 31 by omega)]) ⟨pk_in n 512 hn5, nm_r (by rw [nI_clamp (show n < 2 ^ 31 by omega)]) (nm_r (nI_1 n) (H (n + 1) _ _ _ _ ⟨by omega, Nat.le_refl _, fun k hk => ?_, n, g, by omega, fun _ => rfl, by omega, ?_, ?_, ?_, ?_⟩))⟩⟩⟩⟩) (fun z => absurd z (by omega))
    · rw [pk_uLn (by omega), pk_uLn (by omega), pk_uLn (by omega), pk_uLn (by omega)]
      exact ⟨rfl, rfl, rfl, rfl⟩
    · rw [pk_uLs, sm _ _ hw dw]
      exact dw
    · rw [pk_uLs, sm _ _ hf df]
      exact df
    · rw [pk_uLs, sm _ _ hs ds]
      exact ds
    · rw [pk_uLs, sm _ _ hb eb3]
      exact eb3
  · intro m k _ hk _ hn'
    have nx : wX_addLine_62 post (am_L (w3 * w2 * w1)) (am_L (w3 * w2 * f1)) (am_L (w3 * s2)) (am_L b3') Fpr Fwo Frw Ftu Fun Fco Ffw Fwc Fwt Fwb (nI n) Fem Fhh Fht Fhb Fhl Flt Flb Fbr Fl3 Fg3 A1 A2 A3 A4 A5 A6 A7 A8 A9 A10 A11 A12 A13 A14 A15 A16 A17 A18 A19 m (nI (k + 1)) := hn' () trivial
    refine pk_le n k (fun z => absurd z (by omega)) (fun _ => ⟨pk_in k 512 (by omega), ?_⟩)
    rw [nI_clamp (show k < 2 ^ 31 by omega)]
    refine br_c (fun e1 => ⟨pk_in k 512 (by omega), br_c (fun e2 => ⟨pk_in k 512 (by omega), br_c (fun e3 => ⟨pk_in k 512 (by omega), br_c (fun e4 => H n A14 A15 A16 A17 ⟨Nat.le_refl _, by omega, fun _ _ => ⟨rfl, rfl, rfl, rfl⟩, k, g, hk, fun q => absurd q (by omega), by omega, ?_, ?_, ?_, ?_⟩) (fun _ => nm_r (nI_1 k) nx)⟩) (fun _ => nm_r (nI_1 k) nx)⟩) (fun _ => nm_r (nI_1 k) nx)⟩) (fun _ => nm_r (nI_1 k) nx)
    · rw [e1, sm _ _ hw dw]
      exact dw
    · rw [e2, sm _ _ hf df]
      exact df
    · rw [e3, sm _ _ hs ds]
      exact ds
    · rw [e4, sm _ _ hb eb3]
      exact eb3
/-- an unknown is taken out: where it can be put -/
theorem el_max : ∀ (N : Nat) (c e : Nat → Int), (∃ b, b < N ∧ c b < 0) → ∃ b, b < N ∧ c b < 0 ∧ ∀ k, k < N → c k < 0 → c k * -(e b) ≤ e k * -(c b) := by
  intro N
  induction N with
  | zero => intro c e ⟨b, hb, _⟩; exact absurd hb (by omega)
  | succ N ih =>
    intro c e ⟨b, hb, hc⟩
    by_cases h : ∃ b, b < N ∧ c b < 0
    · obtain ⟨b0, h0, h1, h2⟩ := ih c e h
      by_cases hN : c N < 0
      · rcases am_lg (e N * -(c b0)) (c N * -(e b0)) with z | z
        · refine ⟨N, by omega, hN, fun k hk hck => ?_⟩
          rcases Nat.lt_or_ge k N with y | y
          · have a := h2 k y hck
            -- ratios: k, then b0, then N
            have p1 : 0 < -(c b0) := by omega
            have p2 : 0 < -(c N) := by omega
            have p3 : 0 < -(c k) := by omega
            have m1 := Int.mul_le_mul_of_nonneg_right a (show 0 ≤ -(c N) by omega)
            have m2 := Int.mul_lt_mul_of_pos_right z p3
            have fin : c k * -(e N) * -(c b0) ≤ e k * -(c N) * -(c b0) := by
              have e1 : c k * -(e b0) * -(c N) = c k * c N * e b0 := by grind
              have e2 : e N * -(c b0) * -(c k) = e N * c b0 * c k := by grind
              have e3 : c N * -(e b0) * -(c k) = c N * e b0 * c k := by grind
              have e4 : c k * -(e N) * -(c b0) = e N * c b0 * c k := by grind
              have e5 : e k * -(c b0) * -(c N) = e k * -(c N) * -(c b0) := by grind
              have e6 : c k * c N * e b0 = c N * e b0 * c k := by grind
              omega
            exact Int.le_of_mul_le_mul_right fin p1
          · rw [show k = N by omega]
            grind
        · refine ⟨b0, by omega, h1, fun k hk hck => ?_⟩
          rcases Nat.lt_or_ge k N with y | y
          · exact h2 k y hck
          · rw [show k = N by omega]
            exact z
      · refine ⟨b0, by omega, h1, fun k hk hck => ?_⟩
        rcases Nat.lt_or_ge k N with y | y
        · exact h2 k y hck
        · rw [show k = N by omega] at hck
          exact absurd hck hN
    · have : b = N := by
        rcases Nat.lt_or_ge b N with y | y
        · exact absurd ⟨b, y, hc⟩ h
        · omega
      rw [this] at hc
      refine ⟨N, by omega, hc, fun k hk hck => ?_⟩
      rcases Nat.lt_or_ge k N with y | y
      · exact absurd ⟨k, y, hck⟩ h
      · rw [show k = N by omega]
        grind
theorem el_ok (N : Nat) (c e : Nat → Int) (h0 : ∀ a, a < N → c a = 0 → 0 ≤ e a) (h1 : ∀ a b, a < N → b < N → 0 < c a → c b < 0 → 0 ≤ e a * -(c b) + e b * c a) : ∃ P t, 0 < t ∧ ∀ k, k < N → c k * P ≤ e k * t := by
  by_cases hn : ∃ b, b < N ∧ c b < 0
  · obtain ⟨b, hb, hc, hm⟩ := el_max N c e hn
    refine ⟨-(e b), -(c b), by omega, fun k hk => ?_⟩
    rcases Int.lt_trichotomy (c k) 0 with z | z | z
    · exact hm k hk z
    · rw [z]
      have := Int.mul_nonneg (h0 k hk z) (show 0 ≤ -(c b) by omega)
      omega
    · have := h1 k b hk hb z hc
      have e1 : c k * -(e b) = -(e b * c k) := by grind
      omega
  · by_cases hp : ∃ b, b < N ∧ 0 < c b
    · obtain ⟨b, hb, hc, hm⟩ := el_max N (fun k => -(c k)) e (by
        obtain ⟨b, hb, hc⟩ := hp
        exact ⟨b, hb, by (try dsimp only); omega⟩)
      try dsimp only at hc hm
      refine ⟨e b, c b, by omega, fun k hk => ?_⟩
      rcases Int.lt_trichotomy (c k) 0 with z | z | z
      · exact absurd ⟨k, hk, z⟩ hn
      · rw [z]
        have := Int.mul_nonneg (h0 k hk z) (show 0 ≤ c b by omega)
        omega
      · have := hm k hk (by omega)
        have e1 : -(c k) * -(e b) = c k * e b := by grind
        have e2 : e k * -(-(c b)) = e k * c b := by grind
        omega
    · refine ⟨0, 1, by omega, fun k hk => ?_⟩
      have z : c k = 0 := by
        rcases Int.lt_trichotomy (c k) 0 with z | z | z
        · exact absurd ⟨k, hk, z⟩ hn
        · exact z
        · exact absurd ⟨k, hk, z⟩ hp
      have := h0 k hk z
      omega
end
section
theorem am_6z (x : Int64) : x = 0 ↔ x.toInt = 0 := by
  constructor
  · intro h
    rw [h]
    rfl
  · intro h
    rw [am_Lof x, h]
    rfl
theorem am_6R (x : Int64) : am_R x.toInt := by
  have h1 := Int64.minValue_le_toInt x
  have h2 := Int64.toInt_le x
  rw [am_minL] at h1
  rw [am_maxL] at h2
  exact ⟨h1, h2⟩
theorem am_6l (x : Int64) : x ≤ 0 ↔ x.toInt ≤ 0 := by
  have := am_zl (am_6R x)
  rw [← am_Lof] at this
  exact this
theorem am_6g (x : Int64) : 0 ≤ x ↔ 0 ≤ x.toInt := by
  have := am_zg (am_6R x)
  rw [← am_Lof] at this
  exact this
/-- the lines so far: the first E as they were, behind them lines without the first amount that follow -/
def tf_I (A14 A15 A16 A17 : Nat → Int64) (E n : Nat) (c14 c15 c16 c17 : Nat → Int64) : Prop :=
  E ≤ n ∧ (∀ k, k < E → c14 k = A14 k ∧ c15 k = A15 k ∧ c16 k = A16 k ∧ c17 k = A17 k) ∧ fl_b c14 c15 c16 c17 n 1372 98 19208 823200 ∧ (∀ W P Q q, (∀ k, k < E → fl_at A14 A15 A16 A17 k W P Q q) → ∀ k, k < n → fl_at c14 c15 c16 c17 k W P Q q)
def tf_Z (c14 c15 c16 c17 : Nat → Int64) (n : Nat) (W Q q : Int) : Prop := ∀ k, k < n → (c15 k).toInt = 0 → (c14 k).toInt * W + (c16 k).toInt * Q ≤ (c17 k).toInt * q
def tf_cb (A14 A15 A16 A17 : Nat → Int64) (a b : Nat) (W Q q : Int) : Prop :=
  ((A14 a).toInt * -(A15 b).toInt + (A14 b).toInt * (A15 a).toInt) * W + ((A16 a).toInt * -(A15 b).toInt + (A16 b).toInt * (A15 a).toInt) * Q ≤ ((A17 a).toInt * -(A15 b).toInt + (A17 b).toInt * (A15 a).toInt) * q
theorem tf_add {A14 A15 A16 A17 : Nat → Int64} {E n : Nat} {c14 c15 c16 c17 : Nat → Int64} {w s b : Int} {n' : Nat} {d14 d15 d16 d17 : Nat → Int64} (h : tf_I A14 A15 A16 A17 E n c14 c15 c16 c17) (ha : al_new c14 c15 c16 c17 n w 0 s b n' d14 d15 d16 d17) (hw : w.natAbs ≤ 1372) (hs : s.natAbs ≤ 19208) (hb : b.natAbs ≤ 823200)
    (hc : ∀ W P Q q, (∀ k, k < E → fl_at A14 A15 A16 A17 k W P Q q) → w * W + s * Q ≤ b * q) :
    tf_I A14 A15 A16 A17 E n' d14 d15 d16 d17 ∧ ∀ W Q q, tf_Z d14 d15 d16 d17 n' W Q q → tf_Z c14 c15 c16 c17 n W Q q ∧ w * W + s * Q ≤ b * q := by
  obtain ⟨i1, i2, i3, i4⟩ := h
  obtain ⟨a1, a2, a3, k, g, hk, hkn, hg, ew, ef, es, eb⟩ := id ha
  refine ⟨⟨by omega, fun j hj => ?_, al_b ha i3 hw (by decide) hs hb, fun W P Q q hA => ?_⟩, fun W Q q hZ => ⟨fun j hj hz => ?_, ?_⟩⟩
  · obtain ⟨x, y, z, u⟩ := a3 j (by omega)
    rw [x, y, z, u]
    exact i2 j hj
  · refine (al_sem ha W P Q q).mpr ⟨i4 W P Q q hA, ?_⟩
    have := hc W P Q q hA
    omega
  · obtain ⟨x, y, z, u⟩ := a3 j hj
    have := hZ j (by omega) (by rw [y]; exact hz)
    rw [x, z, u] at this
    exact this
  · have f0 : (d15 k).toInt = 0 := by
      rcases Int.mul_eq_zero.mp ef.symm with q | q
      · omega
      · exact q
    have := Int.mul_le_mul_of_nonneg_left (hZ k hk f0) (show 0 ≤ g by omega)
    rw [ew, es, eb]
    have e1 : g * (d14 k).toInt * W + g * (d16 k).toInt * Q = g * ((d14 k).toInt * W + (d16 k).toInt * Q) := by grind
    have e2 : g * (d17 k).toInt * q = g * ((d17 k).toInt * q) := by grind
    rw [e1, e2]
    exact this
theorem tf_comb {A14 A15 A16 A17 : Nat → Int64} {E a b : Nat} (ha : a < E) (hb : b < E) (fa : 0 < (A15 a).toInt) (fb : (A15 b).toInt < 0) (W P Q q : Int) (h : ∀ k, k < E → fl_at A14 A15 A16 A17 k W P Q q) : tf_cb A14 A15 A16 A17 a b W Q q := by
  have h1 := h a ha
  have h2 := h b hb
  unfold fl_at at h1 h2
  unfold tf_cb
  have m1 := Int.mul_le_mul_of_nonneg_right h1 (show 0 ≤ -(A15 b).toInt by omega)
  have m2 := Int.mul_le_mul_of_nonneg_right h2 (show 0 ≤ (A15 a).toInt by omega)
  generalize (A14 a).toInt = wa at *
  generalize (A14 b).toInt = wb at *
  generalize (A15 a).toInt = va at *
  generalize (A15 b).toInt = vb at *
  generalize (A16 a).toInt = sa at *
  generalize (A16 b).toInt = sb at *
  generalize (A17 a).toInt = ba at *
  generalize (A17 b).toInt = bb at *
  have e1 : (wa * W + va * P + sa * Q) * -vb + (wb * W + vb * P + sb * Q) * va = (wa * -vb + wb * va) * W + (sa * -vb + sb * va) * Q := by grind
  have e2 : ba * q * -vb + bb * q * va = (ba * -vb + bb * va) * q := by grind
  omega
/-- what is left when the first amount is out -/
def tf_sp (A14 A15 A16 A17 : Nat → Int64) (E n : Nat) (d14 d16 d17 : Nat → Int64) : Prop :=
  n ≤ 300 ∧ (∀ j, j < n → (d14 j).toInt.natAbs ≤ 1372 ∧ (d16 j).toInt.natAbs ≤ 19208 ∧ (d17 j).toInt.natAbs ≤ 823200) ∧
  (∀ W P Q q, (∀ k, k < E → fl_at A14 A15 A16 A17 k W P Q q) → ∀ j, j < n → (d14 j).toInt * W + (d16 j).toInt * Q ≤ (d17 j).toInt * q) ∧
  (∀ W Q q, (∀ j, j < n → (d14 j).toInt * W + (d16 j).toInt * Q ≤ (d17 j).toInt * q) → ∃ P t, 0 < t ∧ ∀ k, k < E → fl_at A14 A15 A16 A17 k (W * t) P (Q * t) (q * t))
theorem tf_back {A14 A15 A16 A17 : Nat → Int64} {E : Nat} {W Q q : Int} (h0 : ∀ a, a < E → (A15 a).toInt = 0 → (A14 a).toInt * W + (A16 a).toInt * Q ≤ (A17 a).toInt * q) (h1 : ∀ a b, a < E → b < E → 0 < (A15 a).toInt → (A15 b).toInt < 0 → tf_cb A14 A15 A16 A17 a b W Q q) : ∃ P t, 0 < t ∧ ∀ k, k < E → fl_at A14 A15 A16 A17 k (W * t) P (Q * t) (q * t) := by
  obtain ⟨P, t, ht, hP⟩ := el_ok E (fun k => (A15 k).toInt) (fun k => (A17 k).toInt * q - (A14 k).toInt * W - (A16 k).toInt * Q) (fun a ha hz => by
    have := h0 a ha hz
    try dsimp only
    omega) (fun a b ha hb fa fb => by
    have := h1 a b ha hb fa fb
    unfold tf_cb at this
    try dsimp only
    grind)
  refine ⟨P, t, ht, fun k hk => ?_⟩
  have := hP k hk
  try dsimp only at this
  unfold fl_at
  grind
theorem tf_ok {post : St1 → Prop} {Fpr Fwo Frw Ftu : Int32} {Fun : Int64} {Fco Ffw Fwc : Int32} {Fwt Fwb : Int64} {Fln Fem Fhh : Int32} {Fht Fhb : Int64} {Fhl : Int32} {Flt Flb : Int64} {Fbr Fl3 Fg3 : Int32} {A1 A2 A3 A4 A5 A6 A7 A8 A9 : Nat → Int32} {A10 : Nat → Int64} {A11 A12 : Nat → Int32} {A13 A14 A15 A16 A17 : Nat → Int64} {A18 A19 : Nat → Int32} {E : Nat} (hE : Fln = nI E) (hE16 : E ≤ 16) (hb : fl_b A14 A15 A16 A17 E 7 98 98 4200)
    (H : ∀ n d14 d15 d16 d17, tf_sp A14 A15 A16 A17 E n d14 d16 d17 → post (Fpr, Fwo, Frw, Ftu, Fun, Fco, Ffw, Fwc, Fwt, Fwb, (nI n), Fem, Fhh, Fht, Fhb, Fhl, Flt, Flb, Fbr, Fl3, Fg3, A1, A2, A3, A4, A5, A6, A7, A8, A9, A10, A11, A12, A13, d14, d15, d16, d17, A18, A19)) : wpX_takeFirstOut post (Fpr, Fwo, Frw, Ftu, Fun, Fco, Ffw, Fwc, Fwt, Fwb, Fln, Fem, Fhh, Fht, Fhb, Fhl, Flt, Flb, Fbr, Fl3, Fg3, A1, A2, A3, A4, A5, A6, A7, A8, A9, A10, A11, A12, A13, A14, A15, A16, A17, A18, A19) := by
  subst hE
  refine pk_loop (fun n a (s : Int32 × (Nat → Int64) × (Nat → Int64) × (Nat → Int64) × (Nat → Int64)) => wX_takeFirstOut_7 post (nI E) n (nI a) Fpr Fwo Frw Ftu Fun Fco Ffw Fwc Fwt Fwb (s.1) Fem Fhh Fht Fhb Fhl Flt Flb Fbr Fl3 Fg3 A1 A2 A3 A4 A5 A6 A7 A8 A9 A10 A11 A12 A13 (s.2.1) (s.2.2.1) (s.2.2.2.1) (s.2.2.2.2) A18 A19) (fun a s => ∃ n, n ≤ E + 17 * a ∧ s.1 = nI n ∧ tf_I A14 A15 A16 A17 E n s.2.1 s.2.2.1 s.2.2.2.1 s.2.2.2.2 ∧ ∀ a' b', a' < a → b' < E → 0 < (A15 a').toInt → (A15 b').toInt < 0 → ∀ W Q q, tf_Z s.2.1 s.2.2.1 s.2.2.2.1 s.2.2.2.2 n W Q q → tf_cb A14 A15 A16 A17 a' b' W Q q) E 0 (nI E, A14, A15, A16, A17) (by omega) ⟨E, by omega, rfl, ⟨Nat.le_refl _, fun _ _ => ⟨rfl, rfl, rfl, rfl⟩, fun k hk => by
      have := hb k hk
      dsimp only
      omega, fun _ _ _ _ h => h⟩, fun a' b' ha' => absurd ha' (by omega)⟩ ?_ ?_
  · intro m s ⟨n, hn, es, hI, hC⟩
    obtain ⟨ln, c14, c15, c16, c17⟩ := s
    try dsimp only at es hI hC
    subst es
    obtain ⟨i1, i2, i3, i4⟩ := hI
    refine pk_le E E (fun _ => ?_) (fun z => absurd z (by omega))
    refine Exists.elim (pk_loop (fun m k (s : Nat × (Nat → Int64) × (Nat → Int64) × (Nat → Int64) × (Nat → Int64)) => wX_takeFirstOut_170 post Fpr Fwo Frw Ftu Fun Fco Ffw Fwc Fwt Fwb (nI n) Fem Fhh Fht Fhb Fhl Flt Flb Fbr Fl3 Fg3 m (nI s.1) (nI k) A1 A2 A3 A4 A5 A6 A7 A8 A9 A10 A11 A12 A13 (s.2.1) (s.2.2.1) (s.2.2.2.1) (s.2.2.2.2) A18 A19) (fun k s => s.1 ≤ k ∧ (∀ j, j < s.1 → ∃ i, i < k ∧ (c15 i).toInt = 0 ∧ s.2.1 j = c14 i ∧ s.2.2.2.1 j = c16 i ∧ s.2.2.2.2 j = c17 i) ∧ (∀ i, i < k → (c15 i).toInt = 0 → ∃ j, j < s.1 ∧ s.2.1 j = c14 i ∧ s.2.2.2.1 j = c16 i ∧ s.2.2.2.2 j = c17 i) ∧ (∀ i, k ≤ i → s.2.1 i = c14 i ∧ s.2.2.1 i = c15 i ∧ s.2.2.2.1 i = c16 i ∧ s.2.2.2.2 i = c17 i)) n 0 (0, c14, c15, c16, c17) (by omega) ⟨Nat.le_refl _, fun j hj => absurd hj (by omega), fun j hj => absurd hj (by omega), fun _ _ => ⟨rfl, rfl, rfl, rfl⟩⟩ ?_ ?_) (fun m hm => ⟨m, hm⟩)
    · intro m s ⟨g1, g2, g3, g4⟩
      obtain ⟨kp, d14, d15, d16, d17⟩ := s
      try dsimp only at g1 g2 g3 g4
      refine pk_le n n (fun _ => H kp d14 d15 d16 d17 ⟨by omega, fun j hj => ?_, fun W P Q q hA j hj => ?_, fun W Q q hd => ?_⟩) (fun z => absurd z (by omega))
      · obtain ⟨i, hi, z, e1, e2, e3⟩ := g2 j hj
        rw [e1, e2, e3]
        have := i3 i hi
        exact ⟨this.1, this.2.2.1, this.2.2.2⟩
      · obtain ⟨i, hi, z, e1, e2, e3⟩ := g2 j hj
        rw [e1, e2, e3]
        have := i4 W P Q q hA i hi
        unfold fl_at at this
        rw [z] at this
        omega
      · have hZ : tf_Z c14 c15 c16 c17 n W Q q := by
          intro i hi hz
          obtain ⟨j, hj, e1, e2, e3⟩ := g3 i hi hz
          have := hd j hj
          rw [e1, e2, e3] at this
          exact this
        refine tf_back (fun a ha hz => ?_) (fun a b ha hb' fa fb => hC a b ha hb' fa fb W Q q hZ)
        obtain ⟨x, y, z, u⟩ := i2 a ha
        have := hZ a (by omega) (by rw [y]; exact hz)
        rw [x, z, u] at this
        exact this
    · intro m k s hk ⟨g1, g2, g3, g4⟩ hn'
      obtain ⟨kp, d14, d15, d16, d17⟩ := s
      try dsimp only at g1 g2 g3 g4
      obtain ⟨u1, u2, u3, u4⟩ := g4 k (Nat.le_refl k)
      refine pk_le n k (fun z => absurd z (by omega)) (fun _ => ⟨pk_in k 512 (by omega), ?_⟩)
      dsimp only
      rw [nI_clamp (show k < 2 ^ 31 by omega), u2]
      refine ek_if (am_6z (c15 k)) (fun z => ?_) (fun z => nm_r (nI_1 k) (hn' (kp, d14, d15, d16, d17) ⟨by (try dsimp only); omega, fun j hj => ?_, fun i hi hz => ?_, fun i hi => g4 i (by omega)⟩))
      · have ck : (nI kp).toNatClampNeg = kp := nI_clamp (by omega)
        have ckk : (nI k).toNatClampNeg = k := nI_clamp (by omega)
        refine ⟨pk_in k 512 (by omega), pk_in kp 512 (by omega), nm_r (by rw [ck, u1]) ⟨pk_in kp 512 (by omega), nm_r (by rw [ck]) ⟨pk_in k 512 (by omega), pk_in kp 512 (by omega), nm_r (by rw [ck, u3]) ⟨pk_in k 512 (by omega), pk_in kp 512 (by omega), nm_r (by rw [ck, u4]) (nm_r (nI_1 kp) (nm_r (nI_1 k) (hn' (kp + 1, vp_updL d14 kp (c14 k), vp_updL d15 kp 0, vp_updL d16 kp (c16 k), vp_updL d17 kp (c17 k)) ⟨by (try dsimp only); omega, fun j hj => ?_, fun i hi hz => ?_, fun i hi => ?_⟩)))⟩⟩⟩⟩
        · try dsimp only at hj ⊢
          by_cases gj : j = kp
          · rw [gj, pk_uLs, pk_uLs, pk_uLs]
            exact ⟨k, by omega, z, rfl, rfl, rfl⟩
          · rw [pk_uLn gj, pk_uLn gj, pk_uLn gj]
            obtain ⟨i, hi, r⟩ := g2 j (by omega)
            exact ⟨i, by omega, r⟩
        · try dsimp only
          by_cases gi : i = k
          · exact ⟨kp, by omega, by rw [pk_uLs, gi], by rw [pk_uLs, gi], by rw [pk_uLs, gi]⟩
          · obtain ⟨j, hj, e1, e2, e3⟩ := g3 i (by omega) hz
            exact ⟨j, by omega, by rw [pk_uLn (by omega)]; exact e1, by rw [pk_uLn (by omega)]; exact e2, by rw [pk_uLn (by omega)]; exact e3⟩
        · try dsimp only
          rw [pk_uLn (by omega), pk_uLn (by omega), pk_uLn (by omega), pk_uLn (by omega)]
          exact g4 i (by omega)
      · try dsimp only at hj ⊢
        obtain ⟨i, hi, r⟩ := g2 j hj
        exact ⟨i, by omega, r⟩
      · try dsimp only
        by_cases gi : i = k
        · rw [gi] at hz
          exact absurd hz z
        · exact g3 i (by omega) hz
  · intro m a s ha ⟨n, hn, es, hI, hC⟩ hk
    obtain ⟨ln, c14, c15, c16, c17⟩ := s
    try dsimp only at es hI hC
    subst es
    have inner : ∀ (n : Nat) (c14 c15 c16 c17 : Nat → Int64), n ≤ E + 17 * a + 1 → tf_I A14 A15 A16 A17 E n c14 c15 c16 c17 → (∀ a' b', a' < a → b' < E → 0 < (A15 a').toInt → (A15 b').toInt < 0 → ∀ W Q q, tf_Z c14 c15 c16 c17 n W Q q → tf_cb A14 A15 A16 A17 a' b' W Q q) → ∃ fu, wX_takeFirstOut_48 post (wX_takeFirstOut_7 post (nI E) m) (nI E) (nI a) fu 0 Fpr Fwo Frw Ftu Fun Fco Ffw Fwc Fwt Fwb (nI n) Fem Fhh Fht Fhb Fhl Flt Flb Fbr Fl3 Fg3 A1 A2 A3 A4 A5 A6 A7 A8 A9 A10 A11 A12 A13 c14 c15 c16 c17 A18 A19 := by
      intro n c14 c15 c16 c17 hn hI hC
      refine pk_loop (fun m' b (s : Int32 × (Nat → Int64) × (Nat → Int64) × (Nat → Int64) × (Nat → Int64)) => wX_takeFirstOut_48 post (wX_takeFirstOut_7 post (nI E) m) (nI E) (nI a) m' (nI b) Fpr Fwo Frw Ftu Fun Fco Ffw Fwc Fwt Fwb (s.1) Fem Fhh Fht Fhb Fhl Flt Flb Fbr Fl3 Fg3 A1 A2 A3 A4 A5 A6 A7 A8 A9 A10 A11 A12 A13 (s.2.1) (s.2.2.1) (s.2.2.2.1) (s.2.2.2.2) A18 A19) (fun b s => ∃ n, n ≤ E + 17 * a + 1 + b ∧ s.1 = nI n ∧ tf_I A14 A15 A16 A17 E n s.2.1 s.2.2.1 s.2.2.2.1 s.2.2.2.2 ∧ (∀ a' b', a' < a → b' < E → 0 < (A15 a').toInt → (A15 b').toInt < 0 → ∀ W Q q, tf_Z s.2.1 s.2.2.1 s.2.2.2.1 s.2.2.2.2 n W Q q → tf_cb A14 A15 A16 A17 a' b' W Q q) ∧ ∀ b', b' < b → 0 < (A15 a).toInt → (A15 b').toInt < 0 → ∀ W Q q, tf_Z s.2.1 s.2.2.1 s.2.2.2.1 s.2.2.2.2 n W Q q → tf_cb A14 A15 A16 A17 a b' W Q q) E 0 (nI n, c14, c15, c16, c17) (by omega) ⟨n, by omega, rfl, hI, hC, fun b' hb' => absurd hb' (by omega)⟩ ?_ ?_
      · intro m' s ⟨n, hn, es, hI, hC, hD⟩
        obtain ⟨ln, c14, c15, c16, c17⟩ := s
        try dsimp only at es hI hC hD
        subst es
        refine pk_le E E (fun _ => nm_r (nI_1 a) (hk (nI n, c14, c15, c16, c17) ⟨n, by omega, rfl, hI, fun a' b' ha' => ?_⟩)) (fun z => absurd z (by omega))
        rcases Nat.lt_or_ge a' a with y | y
        · exact hC a' b' y
        · rw [show a' = a by omega]
          exact hD b'
      · intro m' b s hb' ⟨n, hn, es, hI, hC, hD⟩ hk'
        obtain ⟨ln, c14, c15, c16, c17⟩ := s
        try dsimp only at es hI hC hD
        subst es
        obtain ⟨va1, va2, va3, va4⟩ := hI.2.1 a ha
        obtain ⟨vb1, vb2, vb3, vb4⟩ := hI.2.1 b hb'
        have stay : ¬ (0 < (A15 a).toInt ∧ (A15 b).toInt < 0) → wX_takeFirstOut_48 post (wX_takeFirstOut_7 post (nI E) m) (nI E) (nI a) m' (nI (b + 1)) Fpr Fwo Frw Ftu Fun Fco Ffw Fwc Fwt Fwb (nI n) Fem Fhh Fht Fhb Fhl Flt Flb Fbr Fl3 Fg3 A1 A2 A3 A4 A5 A6 A7 A8 A9 A10 A11 A12 A13 c14 c15 c16 c17 A18 A19 := by
          intro no
          refine hk' (nI n, c14, c15, c16, c17) ⟨n, by omega, rfl, hI, hC, lt_s hD (fun x y => absurd ⟨x, y⟩ no)⟩
        refine pk_le E b (fun z => absurd z (by omega)) (fun _ => ⟨pk_in a 512 (by omega), ?_⟩)
        dsimp only
        rw [nI_clamp (show a < 2 ^ 31 by omega), nI_clamp (show b < 2 ^ 31 by omega), va2]
        refine ek_if (am_6l (A15 a)) (fun z => nm_r (nI_1 b) (stay (by omega))) (fun z => ⟨pk_in b 512 (by omega), ?_⟩)
        rw [vb2]
        refine ek_if (am_6g (A15 b)) (fun y => nm_r (nI_1 b) (stay (by omega))) (fun y => ?_)
        have fa : 0 < (A15 a).toInt := by omega
        have fb : (A15 b).toInt < 0 := by omega
        obtain ⟨ba1, ba2, ba3, ba4⟩ := hb a ha
        obtain ⟨bb1, bb2, bb3, bb4⟩ := hb b hb'
        refine ⟨pk_in a 512 (by omega), nm_e ⟨pk_in b 512 (by omega), nm_e ⟨pk_in a 512 (by omega), pk_in b 512 (by omega), pk_in a 512 (by omega), pk_in b 512 (by omega), pk_in a 512 (by omega), pk_in b 512 (by omega), ?_⟩⟩⟩
        rw [va1, va3, va4, vb1, vb3, vb4]
        have cv : ∀ x y u v : Int64, x * -u + y * v = am_L (x.toInt * -u.toInt + y.toInt * v.toInt) := by
          intro x y u v
          rw [← am_Ladd, ← am_Lmul, ← am_Lmul, ← am_Lneg, ← am_Lof, ← am_Lof, ← am_Lof, ← am_Lof]
        rw [cv (A14 a) (A14 b), cv (A16 a) (A16 b), cv (A17 a) (A17 b)]
        have n2 : (-(A15 b).toInt).natAbs ≤ 98 := by omega
        have x1 := am_abs ba1 n2
        have x2 := am_abs bb1 ba2
        have x3 := am_abs ba3 n2
        have x4 := am_abs bb3 ba2
        have x5 := am_abs ba4 n2
        have x6 := am_abs bb4 ba2
        refine al_ok (f := 0) rfl (by omega) (by omega) (by decide) (by omega) (by omega) (fun n' d14 d15 d16 d17 hal => nm_r (nI_1 b) ?_)
        obtain ⟨T1, T2⟩ := tf_add hI hal (by omega) (by omega) (by omega) (fun W P Q q hA => tf_comb ha hb' fa fb W P Q q hA)
        have := hal.2.1
        refine hk' (nI n', d14, d15, d16, d17) ⟨n', by omega, rfl, T1, fun a' b' ha' hb'' fa' fb' W Q q hZ => hC a' b' ha' hb'' fa' fb' W Q q (T2 W Q q hZ).1, lt_s (fun b' hb'' fa' fb' W Q q hZ => hD b' hb'' fa' fb' W Q q (T2 W Q q hZ).1) (fun _ _ W Q q hZ => (T2 W Q q hZ).2)⟩
    obtain ⟨va1, va2, va3, va4⟩ := hI.2.1 a ha
    obtain ⟨ba1, ba2, ba3, ba4⟩ := hb a ha
    refine pk_le E a (fun z => absurd z (by omega)) (fun _ => ⟨pk_in a 512 (by omega), ?_⟩)
    dsimp only
    rw [nI_clamp (show a < 2 ^ 31 by omega), va2]
    refine ek_if (am_6z (A15 a)) (fun z => ⟨pk_in a 512 (by omega), pk_in a 512 (by omega), pk_in a 512 (by omega), ?_⟩) (fun z => inner n c14 c15 c16 c17 (by omega) hI hC)
    rw [va1, va3, va4, am_Lof (A14 a), am_Lof (A16 a), am_Lof (A17 a)]
    refine al_ok (f := 0) rfl (by omega) (by omega) (by decide) (by omega) (by omega) (fun n' d14 d15 d16 d17 hal => ?_)
    obtain ⟨T1, T2⟩ := tf_add hI hal (by omega) (by omega) (by omega) (fun W P Q q hA => by
      have := hA a ha
      unfold fl_at at this
      rw [z] at this
      omega)
    have := hal.2.1
    exact inner n' d14 d15 d16 d17 (by omega) T1 (fun a' b' ha' hb'' fa' fb' W Q q hZ => hC a' b' ha' hb'' fa' fb' W Q q (T2 W Q q hZ).1)
end
section
/-- what the bounds of the worth say of the inequalities Pd that have been sorted in -/
def bw_I (Pd : Int → Int → Prop) (em hh : Int32) (ht hb : Int64) (hl : Int32) (lt lb : Int64) : Prop :=
  (∀ f b, Pd f b → f.natAbs ≤ 52706752 ∧ b.natAbs ≤ 31624051200) ∧
  ((em = 0 ∧ ∀ b, Pd 0 b → 0 ≤ b) ∨ (em = 1 ∧ ∃ b, Pd 0 b ∧ b < 0)) ∧
  ((hh = 0 ∧ ∀ f b, Pd f b → f ≤ 0) ∨ (hh = 1 ∧ ∃ hT hB, ht = am_L hT ∧ hb = am_L hB ∧ 0 < hB ∧ Pd hB hT ∧ ∀ f b, Pd f b → 0 < f → hT * f ≤ b * hB)) ∧
  ((hl = 0 ∧ ∀ f b, Pd f b → 0 ≤ f) ∨ (hl = 1 ∧ ∃ lT lB, lt = am_L lT ∧ lb = am_L lB ∧ 0 < lB ∧ Pd (-lB) (-lT) ∧ ∀ f b, Pd f b → f < 0 → -b * lB ≤ lT * -f))
def bw_or (Pd : Int → Int → Prop) (f b : Int) : Int → Int → Prop := fun x y => Pd x y ∨ (x = f ∧ y = b)
theorem bw_ok {post : St1 → Prop} {Fpr Fwo Frw Ftu : Int32} {Fun : Int64} {Fco Ffw Fwc : Int32} {Fwt Fwb : Int64} {Fln Fem Fhh : Int32} {Fht Fhb : Int64} {Fhl : Int32} {Flt Flb : Int64} {Fbr Fl3 Fg3 : Int32} {A1 A2 A3 A4 A5 A6 A7 A8 A9 : Nat → Int32} {A10 : Nat → Int64} {A11 A12 : Nat → Int32} {A13 A14 A15 A16 A17 : Nat → Int64} {A18 A19 : Nat → Int32} {Pd : Int → Int → Prop} {f b : Int} (hI : bw_I Pd Fem Fhh Fht Fhb Fhl Flt Flb) (hf : f.natAbs ≤ 52706752) (hb : b.natAbs ≤ 31624051200)
    (H : ∀ em hh ht hb hl lt lb, bw_I (bw_or Pd f b) em hh ht hb hl lt lb → post (Fpr, Fwo, Frw, Ftu, Fun, Fco, Ffw, Fwc, Fwt, Fwb, Fln, em, hh, ht, hb, hl, lt, lb, Fbr, Fl3, Fg3, A1, A2, A3, A4, A5, A6, A7, A8, A9, A10, A11, A12, A13, A14, A15, A16, A17, A18, A19)) : wpX_boundWorth post (Fpr, Fwo, Frw, Ftu, Fun, Fco, Ffw, Fwc, Fwt, Fwb, Fln, Fem, Fhh, Fht, Fhb, Fhl, Flt, Flb, Fbr, Fl3, Fg3, A1, A2, A3, A4, A5, A6, A7, A8, A9, A10, A11, A12, A13, A14, A15, A16, A17, A18, A19) (am_L f) (am_L b) := by
  obtain ⟨i1, i2, i3, i4⟩ := id hI
  have o1 : ∀ x y, bw_or Pd f b x y → x.natAbs ≤ 52706752 ∧ y.natAbs ≤ 31624051200 := by
    intro x y h
    rcases h with h | ⟨h1, h2⟩
    · exact i1 x y h
    · rw [h1, h2]
      exact ⟨hf, hb⟩
  have oE : f ≠ 0 → ((Fem = 0 ∧ ∀ y, bw_or Pd f b 0 y → 0 ≤ y) ∨ (Fem = 1 ∧ ∃ y, bw_or Pd f b 0 y ∧ y < 0)) := by
    intro nz
    rcases i2 with ⟨e, h⟩ | ⟨e, y, h1, h2⟩
    · refine Or.inl ⟨e, fun y hy => ?_⟩
      rcases hy with hy | ⟨h1, _⟩
      · exact h y hy
      · exact absurd h1.symm nz
    · exact Or.inr ⟨e, y, Or.inl h1, h2⟩
  have oH : f ≤ 0 → ((Fhh = 0 ∧ ∀ x y, bw_or Pd f b x y → x ≤ 0) ∨ (Fhh = 1 ∧ ∃ hT hB, Fht = am_L hT ∧ Fhb = am_L hB ∧ 0 < hB ∧ bw_or Pd f b hB hT ∧ ∀ x y, bw_or Pd f b x y → 0 < x → hT * x ≤ y * hB)) := by
    intro np
    rcases i3 with ⟨e, h⟩ | ⟨e, hT, hB, e1, e2, h1, h2, h3⟩
    · refine Or.inl ⟨e, fun x y hy => ?_⟩
      rcases hy with hy | ⟨q, _⟩
      · exact h x y hy
      · omega
    · refine Or.inr ⟨e, hT, hB, e1, e2, h1, Or.inl h2, fun x y hy hx => ?_⟩
      rcases hy with hy | ⟨q, _⟩
      · exact h3 x y hy hx
      · omega
  have oL : 0 ≤ f → ((Fhl = 0 ∧ ∀ x y, bw_or Pd f b x y → 0 ≤ x) ∨ (Fhl = 1 ∧ ∃ lT lB, Flt = am_L lT ∧ Flb = am_L lB ∧ 0 < lB ∧ bw_or Pd f b (-lB) (-lT) ∧ ∀ x y, bw_or Pd f b x y → x < 0 → -y * lB ≤ lT * -x)) := by
    intro np
    rcases i4 with ⟨e, h⟩ | ⟨e, hT, hB, e1, e2, h1, h2, h3⟩
    · refine Or.inl ⟨e, fun x y hy => ?_⟩
      rcases hy with hy | ⟨q, _⟩
      · exact h x y hy
      · omega
    · refine Or.inr ⟨e, hT, hB, e1, e2, h1, Or.inl h2, fun x y hy hx => ?_⟩
      rcases hy with hy | ⟨q, _⟩
      · exact h3 x y hy hx
      · omega
  have Rf : am_R f := ⟨by omega, by omega⟩
  have Rb : am_R b := ⟨by omega, by omega⟩
  refine ek_if (am_z0 Rf) (fun z => ?_) (fun z => ek_if (am_zl Rf) (fun y => ?_) (fun y => ?_))
  · have full : ∀ em, ((em = (0 : Int32) ∧ ∀ y, bw_or Pd f b 0 y → 0 ≤ y) ∨ (em = 1 ∧ ∃ y, bw_or Pd f b 0 y ∧ y < 0)) → post (Fpr, Fwo, Frw, Ftu, Fun, Fco, Ffw, Fwc, Fwt, Fwb, Fln, em, Fhh, Fht, Fhb, Fhl, Flt, Flb, Fbr, Fl3, Fg3, A1, A2, A3, A4, A5, A6, A7, A8, A9, A10, A11, A12, A13, A14, A15, A16, A17, A18, A19) := fun em he => H em Fhh Fht Fhb Fhl Flt Flb ⟨o1, he, oH (by omega), oL (by omega)⟩
    rcases i2 with ⟨e, h⟩ | ⟨e, q, h1, h2⟩
    · rw [e]
      refine br_t rfl (ek_if (am_zg Rb) (fun x => full 0 (Or.inl ⟨rfl, fun q hq => ?_⟩)) (fun x => full 1 (Or.inr ⟨rfl, b, Or.inr ⟨z.symm, rfl⟩, by omega⟩)))
      rcases hq with hq | ⟨_, hq⟩
      · exact h q hq
      · rw [hq]
        exact x
    · rw [e]
      exact br_f (by decide) (full 1 (Or.inr ⟨rfl, q, Or.inl h1, h2⟩))
  · have fneg : f < 0 := by omega
    have take : (∀ x q, Pd x q → x < 0 → -q * -f ≤ -b * -x) → wX_boundWorth_134 post (am_L f) (am_L b) Fpr Fwo Frw Ftu Fun Fco Ffw Fwc Fwt Fwb Fln Fem Fhh Fht Fhb Fhl Flt Flb Fbr Fl3 Fg3 A1 A2 A3 A4 A5 A6 A7 A8 A9 A10 A11 A12 A13 A14 A15 A16 A17 A18 A19 := by
      intro hm
      refine br_f (by decide) (br_f (by decide) (nm_e ?_))
      refine H Fem Fhh Fht Fhb 1 _ _ ⟨o1, oE z, oH (by omega), Or.inr ⟨rfl, -b, -f, am_Lneg b, am_Lneg f, by omega, Or.inr ⟨by omega, by omega⟩, fun x q hq hx => ?_⟩⟩
      rcases hq with hq | ⟨e1, e2⟩
      · exact hm x q hq hx
      · rw [e1, e2]
        exact Int.le_refl _
    rcases i4 with ⟨e, h⟩ | ⟨e, lT, lB, e1, e2, h1, h2, h3⟩
    · rw [e]
      exact br_t rfl (take (fun x q hq hx => absurd (h x q hq) (by omega)))
    · rw [e, e1, e2]
      refine br_f (by decide) ?_
      rw [am_Lneg, am_Lneg, am_Lmul, am_Lmul]
      obtain ⟨b1, b2⟩ := i1 _ _ h2
      have r1 := am_abs (show (-b).natAbs ≤ 31624051200 by omega) (show lB.natAbs ≤ 52706752 by omega)
      have r2 := am_abs (show lT.natAbs ≤ 31624051200 by omega) (show (-f).natAbs ≤ 52706752 by omega)
      refine ek_if (am_Lle (am_Rabs r1 (by omega)) (am_Rabs r2 (by omega))) (fun x => br_t rfl (br_t rfl ?_)) (fun x => ?_)
      · have := H Fem Fhh Fht Fhb 1 Flt Flb ⟨o1, oE z, oH (by omega), Or.inr ⟨rfl, lT, lB, e1, e2, h1, Or.inl h2, fun u v hu hv => ?_⟩⟩
        · rw [e1, e2] at this
          exact this
        · rcases hu with hu | ⟨q1, q2⟩
          · exact h3 u v hu hv
          · rw [q1, q2]
            exact x
      · have tk := take (fun u v hu hv => by
          have a := h3 u v hu hv
          have m1 := Int.mul_le_mul_of_nonneg_right a (show 0 ≤ -f by omega)
          have m2 := Int.mul_lt_mul_of_pos_right (show lT * -f < -b * lB by omega) (show 0 < -u by omega)
          have e5 : lT * -u * -f = lT * -f * -u := by grind
          have e6 : -v * lB * -f = -v * -f * lB := by grind
          have e7 : -b * lB * -u = -b * -u * lB := by grind
          exact Int.le_of_mul_le_mul_right (show -v * -f * lB ≤ -b * -u * lB by omega) h1)
        rw [e, e1, e2] at tk
        exact tk
  · have fpos : 0 < f := by omega
    have take : (∀ x q, Pd x q → 0 < x → b * x ≤ q * f) → wX_boundWorth_60 post (am_L f) (am_L b) Fpr Fwo Frw Ftu Fun Fco Ffw Fwc Fwt Fwb Fln Fem Fhh Fht Fhb Fhl Flt Flb Fbr Fl3 Fg3 A1 A2 A3 A4 A5 A6 A7 A8 A9 A10 A11 A12 A13 A14 A15 A16 A17 A18 A19 := by
      intro hm
      refine br_f (by decide) (br_f (by decide) ?_)
      refine H Fem 1 (am_L b) (am_L f) Fhl Flt Flb ⟨o1, oE z, Or.inr ⟨rfl, b, f, rfl, rfl, fpos, Or.inr ⟨rfl, rfl⟩, fun x q hq hx => ?_⟩, oL (by omega)⟩
      rcases hq with hq | ⟨e1, e2⟩
      · exact hm x q hq hx
      · rw [e1, e2]
        exact Int.le_refl _
    rcases i3 with ⟨e, h⟩ | ⟨e, hT, hB, e1, e2, h1, h2, h3⟩
    · rw [e]
      exact br_t rfl (take (fun x q hq hx => absurd (h x q hq) (by omega)))
    · rw [e, e1, e2]
      refine br_f (by decide) ?_
      rw [am_Lmul, am_Lmul]
      obtain ⟨b1, b2⟩ := i1 _ _ h2
      have r1 := am_abs (show hT.natAbs ≤ 31624051200 by omega) hf
      have r2 := am_abs hb (show hB.natAbs ≤ 52706752 by omega)
      refine ek_if (am_Lle (am_Rabs r1 (by omega)) (am_Rabs r2 (by omega))) (fun x => br_t rfl (br_t rfl ?_)) (fun x => ?_)
      · have := H Fem 1 Fht Fhb Fhl Flt Flb ⟨o1, oE z, Or.inr ⟨rfl, hT, hB, e1, e2, h1, Or.inl h2, fun u v hu hv => ?_⟩, oL (by omega)⟩
        · rw [e1, e2] at this
          exact this
        · rcases hu with hu | ⟨q1, q2⟩
          · exact h3 u v hu hv
          · rw [q1, q2]
            exact x
      · have tk := take (fun u v hu hv => by
          have a := h3 u v hu hv
          have m1 := Int.mul_le_mul_of_nonneg_right a (show 0 ≤ f by omega)
          have m2 := Int.mul_lt_mul_of_pos_right (show b * hB < hT * f by omega) hv
          have e5 : hT * u * f = hT * f * u := by grind
          have e6 : v * hB * f = v * f * hB := by grind
          have e7 : b * hB * u = b * u * hB := by grind
          exact Int.le_of_mul_le_mul_right (show b * u * hB ≤ v * f * hB by omega) h1)
        rw [e, e1, e2] at tk
        exact tk
/-- the lines with two unknowns, and the inequalities of the worth alone that are sorted in -/
def ts_S (d14 d16 d17 : Nat → Int64) (n : Nat) (Pd : Int → Int → Prop) : Prop := ∀ f b, Pd f b → ∀ W Q q, (∀ j, j < n → (d14 j).toInt * W + (d16 j).toInt * Q ≤ (d17 j).toInt * q) → f * W ≤ b * q
def ts_f (d14 d16 : Nat → Int64) (a b : Nat) : Int := (d14 a).toInt * -(d16 b).toInt + (d14 b).toInt * (d16 a).toInt
theorem ts_ok {post : St1 → Prop} {Fpr Fwo Frw Ftu : Int32} {Fun : Int64} {Fco Ffw Fwc : Int32} {Fwt Fwb : Int64} {Fln Fem Fhh : Int32} {Fht Fhb : Int64} {Fhl : Int32} {Flt Flb : Int64} {Fbr Fl3 Fg3 : Int32} {A1 A2 A3 A4 A5 A6 A7 A8 A9 : Nat → Int32} {A10 : Nat → Int64} {A11 A12 : Nat → Int32} {A13 A14 A15 A16 A17 : Nat → Int64} {A18 A19 : Nat → Int32} {n : Nat} (hn : Fln = nI n) (hn3 : n ≤ 300) (hb : ∀ j, j < n → (A14 j).toInt.natAbs ≤ 1372 ∧ (A16 j).toInt.natAbs ≤ 19208 ∧ (A17 j).toInt.natAbs ≤ 823200) (he : Fem = 0) (hh : Fhh = 0) (hl : Fhl = 0)
    (H : ∀ Pd em hh ht hb hl lt lb, bw_I Pd em hh ht hb hl lt lb → ts_S A14 A16 A17 n Pd → (∀ a, a < n → (A16 a).toInt = 0 → Pd (A14 a).toInt (A17 a).toInt) → (∀ a b, a < n → b < n → 0 < (A16 a).toInt → (A16 b).toInt < 0 → Pd (ts_f A14 A16 a b) (ts_f A17 A16 a b)) → post (Fpr, Fwo, Frw, Ftu, Fun, Fco, Ffw, Fwc, Fwt, Fwb, Fln, em, hh, ht, hb, hl, lt, lb, Fbr, Fl3, Fg3, A1, A2, A3, A4, A5, A6, A7, A8, A9, A10, A11, A12, A13, A14, A15, A16, A17, A18, A19)) : wpX_takeSecondOut post (Fpr, Fwo, Frw, Ftu, Fun, Fco, Ffw, Fwc, Fwt, Fwb, Fln, Fem, Fhh, Fht, Fhb, Fhl, Flt, Flb, Fbr, Fl3, Fg3, A1, A2, A3, A4, A5, A6, A7, A8, A9, A10, A11, A12, A13, A14, A15, A16, A17, A18, A19) := by
  subst hn
  refine pk_loop (fun m a (s : Int32 × Int32 × Int64 × Int64 × Int32 × Int64 × Int64) => wX_takeSecondOut_2 post m (nI a) Fpr Fwo Frw Ftu Fun Fco Ffw Fwc Fwt Fwb (nI n) (s.1) (s.2.1) (s.2.2.1) (s.2.2.2.1) (s.2.2.2.2.1) (s.2.2.2.2.2.1) (s.2.2.2.2.2.2) Fbr Fl3 Fg3 A1 A2 A3 A4 A5 A6 A7 A8 A9 A10 A11 A12 A13 A14 A15 A16 A17 A18 A19) (fun i s => ∃ Pd, bw_I Pd s.1 s.2.1 s.2.2.1 s.2.2.2.1 s.2.2.2.2.1 s.2.2.2.2.2.1 s.2.2.2.2.2.2 ∧ ts_S A14 A16 A17 n Pd ∧ (∀ a, a < i → (A16 a).toInt = 0 → Pd (A14 a).toInt (A17 a).toInt) ∧ (∀ a b, a < i → b < n → 0 < (A16 a).toInt → (A16 b).toInt < 0 → Pd (ts_f A14 A16 a b) (ts_f A17 A16 a b))) n 0 (Fem, Fhh, Fht, Fhb, Fhl, Flt, Flb) (by omega) ⟨fun _ _ => False, ⟨fun _ _ h => h.elim, Or.inl ⟨he, fun _ h => h.elim⟩, Or.inl ⟨hh, fun _ _ h => h.elim⟩, Or.inl ⟨hl, fun _ _ h => h.elim⟩⟩, fun _ _ h => h.elim, fun a ha => absurd ha (by omega), fun a b ha => absurd ha (by omega)⟩ ?_ ?_
  · intro m s ⟨Pd, h1, h2, h3, h4⟩
    exact pk_le n n (fun _ => H Pd _ _ _ _ _ _ _ h1 h2 h3 h4) (fun z => absurd z (by omega))
  · intro m a s ha ⟨Pd, h1, h2, h3, h4⟩ hk
    obtain ⟨em, hh, ht, hB, hl, lt, lb⟩ := s
    try dsimp only at h1
    have inner : ∀ (Pd : Int → Int → Prop) (em hh : Int32) (ht hB : Int64) (hl : Int32) (lt lb : Int64), bw_I Pd em hh ht hB hl lt lb → ts_S A14 A16 A17 n Pd → (∀ x, x < a + 1 → (A16 x).toInt = 0 → Pd (A14 x).toInt (A17 x).toInt) → (∀ x y, x < a → y < n → 0 < (A16 x).toInt → (A16 y).toInt < 0 → Pd (ts_f A14 A16 x y) (ts_f A17 A16 x y)) → ∃ fu, wX_takeSecondOut_39 post (wX_takeSecondOut_2 post m) (nI a) fu 0 Fpr Fwo Frw Ftu Fun Fco Ffw Fwc Fwt Fwb (nI n) em hh ht hB hl lt lb Fbr Fl3 Fg3 A1 A2 A3 A4 A5 A6 A7 A8 A9 A10 A11 A12 A13 A14 A15 A16 A17 A18 A19 := by
      intro Pd em hh ht hB hl lt lb h1 h2 h3 h4
      refine pk_loop (fun m' b (s : Int32 × Int32 × Int64 × Int64 × Int32 × Int64 × Int64) => wX_takeSecondOut_39 post (wX_takeSecondOut_2 post m) (nI a) m' (nI b) Fpr Fwo Frw Ftu Fun Fco Ffw Fwc Fwt Fwb (nI n) (s.1) (s.2.1) (s.2.2.1) (s.2.2.2.1) (s.2.2.2.2.1) (s.2.2.2.2.2.1) (s.2.2.2.2.2.2) Fbr Fl3 Fg3 A1 A2 A3 A4 A5 A6 A7 A8 A9 A10 A11 A12 A13 A14 A15 A16 A17 A18 A19) (fun i s => ∃ Pd, bw_I Pd s.1 s.2.1 s.2.2.1 s.2.2.2.1 s.2.2.2.2.1 s.2.2.2.2.2.1 s.2.2.2.2.2.2 ∧ ts_S A14 A16 A17 n Pd ∧ (∀ x, x < a + 1 → (A16 x).toInt = 0 → Pd (A14 x).toInt (A17 x).toInt) ∧ (∀ x y, x < a → y < n → 0 < (A16 x).toInt → (A16 y).toInt < 0 → Pd (ts_f A14 A16 x y) (ts_f A17 A16 x y)) ∧ (∀ y, y < i → 0 < (A16 a).toInt → (A16 y).toInt < 0 → Pd (ts_f A14 A16 a y) (ts_f A17 A16 a y))) n 0 (em, hh, ht, hB, hl, lt, lb) (by omega) ⟨Pd, h1, h2, h3, h4, fun y hy => absurd hy (by omega)⟩ ?_ ?_
      · intro m' s ⟨Pd, h1, h2, h3, h4, h5⟩
        obtain ⟨em, hh, ht, hB, hl, lt, lb⟩ := s
        try dsimp only at h1
        refine pk_le n n (fun _ => nm_r (nI_1 a) (hk (em, hh, ht, hB, hl, lt, lb) ⟨Pd, h1, h2, h3, fun x y hx => ?_⟩)) (fun z => absurd z (by omega))
        rcases Nat.lt_or_ge x a with q | q
        · exact h4 x y q
        · rw [show x = a by omega]
          exact h5 y
      · intro m' b s hb' ⟨Pd, h1, h2, h3, h4, h5⟩ hk'
        obtain ⟨em, hh, ht, hB, hl, lt, lb⟩ := s
        try dsimp only at h1
        have stay : ¬ (0 < (A16 a).toInt ∧ (A16 b).toInt < 0) → wX_takeSecondOut_39 post (wX_takeSecondOut_2 post m) (nI a) m' (nI (b + 1)) Fpr Fwo Frw Ftu Fun Fco Ffw Fwc Fwt Fwb (nI n) em hh ht hB hl lt lb Fbr Fl3 Fg3 A1 A2 A3 A4 A5 A6 A7 A8 A9 A10 A11 A12 A13 A14 A15 A16 A17 A18 A19 := by
          intro no
          exact hk' (em, hh, ht, hB, hl, lt, lb) ⟨Pd, h1, h2, h3, h4, lt_s h5 (fun x y => absurd ⟨x, y⟩ no)⟩
        refine pk_le n b (fun z => absurd z (by omega)) (fun _ => ⟨pk_in a 512 (by omega), ?_⟩)
        rw [nI_clamp (show a < 2 ^ 31 by omega), nI_clamp (show b < 2 ^ 31 by omega)]
        refine ek_if (am_6l (A16 a)) (fun z => nm_r (nI_1 b) (stay (by omega))) (fun z => ⟨pk_in b 512 (by omega), ?_⟩)
        refine ek_if (am_6g (A16 b)) (fun y => nm_r (nI_1 b) (stay (by omega))) (fun y => ?_)
        have fa : 0 < (A16 a).toInt := by omega
        have fb : (A16 b).toInt < 0 := by omega
        obtain ⟨ba1, ba2, ba3⟩ := hb a ha
        obtain ⟨bb1, bb2, bb3⟩ := hb b hb'
        refine ⟨pk_in a 512 (by omega), nm_e ⟨pk_in b 512 (by omega), nm_e ⟨pk_in a 512 (by omega), pk_in b 512 (by omega), pk_in a 512 (by omega), pk_in b 512 (by omega), ?_⟩⟩⟩
        have cv : ∀ x y u v : Int64, x * -u + y * v = am_L (x.toInt * -u.toInt + y.toInt * v.toInt) := by
          intro x y u v
          rw [← am_Ladd, ← am_Lmul, ← am_Lmul, ← am_Lneg, ← am_Lof, ← am_Lof, ← am_Lof, ← am_Lof]
        rw [cv (A14 a) (A14 b), cv (A17 a) (A17 b)]
        have n2 : (-(A16 b).toInt).natAbs ≤ 19208 := by omega
        have x1 := am_abs ba1 n2
        have x2 := am_abs bb1 ba2
        have x3 := am_abs ba3 n2
        have x4 := am_abs bb3 ba2
        refine bw_ok h1 (by omega) (by omega) (fun em hh ht hB hl lt lb h1' => nm_r (nI_1 b) (hk' (em, hh, ht, hB, hl, lt, lb) ⟨_, h1', fun f c hp W Q q hL => ?_, fun x hx hz => Or.inl (h3 x hx hz), fun x y hx hy q1 q2 => Or.inl (h4 x y hx hy q1 q2), lt_s (fun y hy q1 q2 => Or.inl (h5 y hy q1 q2)) (fun _ _ => Or.inr ⟨rfl, rfl⟩)⟩))
        rcases hp with hp | ⟨e1, e2⟩
        · exact h2 f c hp W Q q hL
        · have l1 := hL a ha
          have l2 := hL b hb'
          rw [e1, e2]
          have m1 := Int.mul_le_mul_of_nonneg_right l1 (show 0 ≤ -(A16 b).toInt by omega)
          have m2 := Int.mul_le_mul_of_nonneg_right l2 (show 0 ≤ (A16 a).toInt by omega)
          generalize (A14 a).toInt = wa at *
          generalize (A14 b).toInt = wb at *
          generalize (A16 a).toInt = va at *
          generalize (A16 b).toInt = vb at *
          generalize (A17 a).toInt = ca at *
          generalize (A17 b).toInt = cb at *
          have e3 : (wa * W + va * Q) * -vb + (wb * W + vb * Q) * va = (wa * -vb + wb * va) * W := by grind
          have e4 : ca * q * -vb + cb * q * va = (ca * -vb + cb * va) * q := by grind
          omega
    obtain ⟨ba1, ba2, ba3⟩ := hb a ha
    refine pk_le n a (fun z => absurd z (by omega)) (fun _ => ⟨pk_in a 512 (by omega), ?_⟩)
    rw [nI_clamp (show a < 2 ^ 31 by omega)]
    refine ek_if (am_6z (A16 a)) (fun z => ⟨pk_in a 512 (by omega), pk_in a 512 (by omega), ?_⟩) (fun z => inner Pd em hh ht hB hl lt lb h1 h2 (lt_s h3 (fun q => absurd q z)) h4)
    rw [am_Lof (A14 a), am_Lof (A17 a)]
    refine bw_ok h1 (by omega) (by omega) (fun em hh ht hB hl lt lb h1' => inner _ em hh ht hB hl lt lb h1' (fun f c hp W Q q hL => ?_) (lt_s (fun x hx hz => Or.inl (h3 x hx hz)) (fun _ => Or.inr ⟨rfl, rfl⟩)) (fun x y hx hy q1 q2 => Or.inl (h4 x y hx hy q1 q2)))
    rcases hp with hp | ⟨e1, e2⟩
    · exact h2 f c hp W Q q hL
    · have l1 := hL a ha
      rw [e1, e2]
      rw [z] at l1
      omega
/-- what the bounds of the worth come to -/
theorem bw_cmp {hT hB lT lB : Int} (h1 : hT.natAbs ≤ 31624051200) (h2 : hB.natAbs ≤ 52706752) (h3 : lT.natAbs ≤ 31624051200) (h4 : lB.natAbs ≤ 52706752) : am_L lT * am_L hB ≤ am_L hT * am_L lB ↔ lT * hB ≤ hT * lB := by
  rw [am_Lmul, am_Lmul]
  exact am_Lle (am_Rabs (am_abs h3 h2) (by omega)) (am_Rabs (am_abs h1 h4) (by omega))
theorem bw_no {Pd : Int → Int → Prop} {em hh : Int32} {ht hb : Int64} {hl : Int32} {lt lb : Int64} (h : bw_I Pd em hh ht hb hl lt lb) (he : ¬ em = 0 ∨ (em = 0 ∧ ¬ hh = 0 ∧ ¬ hl = 0 ∧ ¬ lt * hb ≤ ht * lb)) (W q : Int) (hq : 0 < q) (hp : ∀ f b, Pd f b → f * W ≤ b * q) : False := by
  obtain ⟨i1, i2, i3, i4⟩ := h
  rcases he with e | ⟨e, e1, e2, hlt⟩
  · rcases i2 with ⟨z, _⟩ | ⟨_, b, hb, hn⟩
    · exact e z
    · have := hp 0 b hb
      have := Int.mul_neg_of_neg_of_pos hn hq
      omega
  · rcases i3 with ⟨z, _⟩ | ⟨_, hT, hB, a1, a2, a3, a4, a5⟩
    · exact e1 z
    · rcases i4 with ⟨z, _⟩ | ⟨_, lT, lB, c1, c2, c3, c4, c5⟩
      · exact e2 z
      · have b1 := i1 _ _ a4
        have b2 := i1 _ _ c4
        have l : hT * lB < lT * hB := by
          rw [a1, a2, c1, c2, bw_cmp b1.2 b1.1 (by omega) (by omega)] at hlt
          omega
        have x := hp _ _ a4
        have y := hp _ _ c4
        have m1 := Int.mul_le_mul_of_nonneg_right x (show 0 ≤ lB by omega)
        have m2 := Int.mul_le_mul_of_nonneg_right y (show 0 ≤ hB by omega)
        have m3 := Int.mul_lt_mul_of_pos_right l hq
        have e5 : hB * W * lB + -lB * W * hB = 0 := by grind
        have e6 : hT * q * lB = hT * lB * q := by grind
        have e7 : -lT * q * hB = -(lT * hB * q) := by grind
        omega
theorem bw_yes {Pd : Int → Int → Prop} {em hh : Int32} {ht hb : Int64} {hl : Int32} {lt lb : Int64} (h : bw_I Pd em hh ht hb hl lt lb) (he : em = 0) (hle : ¬ hh = 0 → ¬ hl = 0 → lt * hb ≤ ht * lb) : ∃ W q, 0 < q ∧ ∀ f b, Pd f b → f * W ≤ b * q := by
  obtain ⟨i1, i2, i3, i4⟩ := h
  have ze : ∀ b, Pd 0 b → 0 ≤ b := by
    rcases i2 with ⟨_, z⟩ | ⟨z, _⟩
    · exact z
    · rw [he] at z
      exact absurd z (by decide)
  rcases i3 with ⟨zh, nh⟩ | ⟨zh, hT, hB, a1, a2, a3, a4, a5⟩
  · rcases i4 with ⟨zl, nl⟩ | ⟨zl, lT, lB, c1, c2, c3, c4, c5⟩
    · refine ⟨0, 1, by omega, fun f b hp => ?_⟩
      have := nh f b hp
      have := nl f b hp
      have f0 : f = 0 := by omega
      rw [f0] at hp
      have := ze b hp
      omega
    · refine ⟨lT, lB, c3, fun f b hp => ?_⟩
      have nf := nh f b hp
      rcases Int.lt_or_eq_of_le nf with y | y
      · have u := c5 f b hp y
        have e1 : -b * lB = -(b * lB) := by grind
        have e2 : lT * -f = -(f * lT) := by grind
        omega
      · rw [y] at hp ⊢
        have := Int.mul_nonneg (ze b hp) (show 0 ≤ lB by omega)
        omega
  · rcases i4 with ⟨zl, nl⟩ | ⟨zl, lT, lB, c1, c2, c3, c4, c5⟩
    · refine ⟨hT, hB, a3, fun f b hp => ?_⟩
      have nf := nl f b hp
      rcases Int.lt_or_eq_of_le nf with y | y
      · have := a5 f b hp y
        rw [Int.mul_comm f hT]
        exact this
      · rw [← y] at hp ⊢
        have := Int.mul_nonneg (ze b hp) (show 0 ≤ hB by omega)
        omega
    · have b1 := i1 _ _ a4
      have b2 := i1 _ _ c4
      have le : lT * hB ≤ hT * lB := by
        have := hle (by rw [zh]; decide) (by rw [zl]; decide)
        rw [a1, a2, c1, c2, bw_cmp b1.2 b1.1 (by omega) (by omega)] at this
        exact this
      refine ⟨hT, hB, a3, fun f b hp => ?_⟩
      rcases Int.lt_trichotomy f 0 with y | y | y
      · have u := c5 f b hp y
        have m1 := Int.mul_le_mul_of_nonneg_right u (show 0 ≤ hB by omega)
        have m2 := Int.mul_le_mul_of_nonneg_right le (show 0 ≤ -f by omega)
        have e5 : lT * -f * hB = lT * hB * -f := by grind
        have e6 : -b * lB * hB = -(b * hB) * lB := by grind
        have e7 : hT * lB * -f = -(f * hT) * lB := by grind
        have := Int.le_of_mul_le_mul_right (show -(b * hB) * lB ≤ -(f * hT) * lB by omega) c3
        omega
      · rw [y] at hp ⊢
        have := Int.mul_nonneg (ze b hp) (show 0 ≤ hB by omega)
        omega
      · have := a5 f b hp y
        rw [Int.mul_comm f hT]
        exact this
end
section
/-- the line of a row: the worth in place of amount o -/
def ta_sz (A7 : Nat → Int32) (o : Nat) : Int := if (A7 o).toInt < 0 then -(A7 o).toInt else (A7 o).toInt
def ta_sd (A7 : Nat → Int32) (o : Nat) : Int := if (A7 o).toInt < 0 then -1 else 1
def ta_w (A7 : Nat → Int32) (o : Nat) (α : Nat → Int) : Int := if A7 o = 0 then α o else ta_sd A7 o * α o
def ta_f (A7 : Nat → Int32) (o : Nat) (α : Nat → Int) (j : Nat) : Int := if A7 o = 0 then α j else ta_sz A7 o * α j - ta_sd A7 o * α o * (A7 j).toInt
def ta_b (A7 : Nat → Int32) (o : Nat) (β : Int) : Int := if A7 o = 0 then β else ta_sz A7 o * β
def ta_LH (A7 : Nat → Int32) (o : Nat) (α : Nat → Int) (β W P Q q : Int) : Prop := ta_w A7 o α * W + ta_f A7 o α ((o + 1) % 3) * P + ta_f A7 o α ((o + 2) % 3) * Q ≤ ta_b A7 o β * q
theorem am_3z (x : Int32) : x = 0 ↔ x.toInt = 0 := by
  constructor
  · intro h
    rw [h]
    rfl
  · intro h
    rw [am_Iof x, h]
    rfl
theorem ta_bounds {A7 : Nat → Int32} {o : Nat} {α : Nat → Int} {β : Int} (hA7 : ∀ j, j < 3 → (A7 j).toInt.natAbs ≤ 7) (ho : o < 3) (hα : ∀ i, i < 3 → (α i).natAbs ≤ 7) (hβ : β.natAbs ≤ 600) : (ta_w A7 o α).natAbs ≤ 7 ∧ (∀ j, j < 3 → (ta_f A7 o α j).natAbs ≤ 98) ∧ (ta_b A7 o β).natAbs ≤ 4200 := by
  have a := hA7 o ho
  have b := hα o ho
  have sz : (ta_sz A7 o).natAbs ≤ 7 := by
    unfold ta_sz
    split <;> omega
  have sd : (ta_sd A7 o * α o).natAbs ≤ 7 := by
    unfold ta_sd
    split <;> omega
  refine ⟨?_, fun j hj => ?_, ?_⟩
  · unfold ta_w
    split
    · exact b
    · exact sd
  · unfold ta_f
    split
    · have := hα j hj
      omega
    · have x := am_abs sz (hα j hj)
      have y := am_abs sd (hA7 j hj)
      omega
  · unfold ta_b
    split
    · omega
    · have := am_abs sz hβ
      omega
/-- the amounts from the worth and two amounts, and back -/
def ta_W (A7 : Nat → Int32) (o : Nat) (Y : Nat → Int) : Int := if A7 o = 0 then Y o else (A7 0).toInt * Y 0 + (A7 1).toInt * Y 1 + (A7 2).toInt * Y 2
theorem ta_alg {sz sd ao aj ak αo αj αk Yo Yj Yk β q W : Int} (cs : sd * ao = sz) (hW : W = ao * Yo + aj * Yj + ak * Yk) (m : sz * (αo * Yo + αj * Yj + αk * Yk) ≤ sz * (β * q)) : sd * αo * W + (sz * αj - sd * αo * aj) * Yj + (sz * αk - sd * αo * ak) * Yk ≤ sz * β * q := by
  have e : sd * αo * W + (sz * αj - sd * αo * aj) * Yj + (sz * αk - sd * αo * ak) * Yk = (sd * ao) * (αo * Yo) + sz * (αj * Yj) + sz * (αk * Yk) := by
    rw [hW]
    grind
  have e2 : sz * (αo * Yo + αj * Yj + αk * Yk) = sz * (αo * Yo) + sz * (αj * Yj) + sz * (αk * Yk) := by grind
  have e3 : sz * β * q = sz * (β * q) := by grind
  rw [e, cs, e3, ← e2]
  exact m
theorem ta_in {A7 : Nat → Int32} {o : Nat} (ho : o < 3) (α Y : Nat → Int) (β q : Int) (h : α 0 * Y 0 + α 1 * Y 1 + α 2 * Y 2 ≤ β * q) : ta_LH A7 o α β (ta_W A7 o Y) (Y ((o + 1) % 3)) (Y ((o + 2) % 3)) q := by
  unfold ta_LH ta_w ta_f ta_b ta_W
  have ho' : o = 0 ∨ o = 1 ∨ o = 2 := by omega
  by_cases z : A7 o = 0
  · rw [if_pos z, if_pos z, if_pos z, if_pos z, if_pos z]
    rcases ho' with rfl | rfl | rfl <;> simp <;> omega
  · rw [if_neg z, if_neg z, if_neg z, if_neg z, if_neg z]
    have zp : (A7 o).toInt ≠ 0 := fun q => z ((am_3z _).mpr q)
    have szp : 0 ≤ ta_sz A7 o := by
      unfold ta_sz
      split <;> omega
    have m := Int.mul_le_mul_of_nonneg_left h szp
    have cs : ta_sd A7 o * (A7 o).toInt = ta_sz A7 o := by
      unfold ta_sd ta_sz
      split <;> omega
    generalize ta_sz A7 o = sz at *
    generalize ta_sd A7 o = sd at *
    rcases ho' with rfl | rfl | rfl
    · exact ta_alg cs rfl m
    · refine ta_alg cs (aj := (A7 2).toInt) (ak := (A7 0).toInt) (Yo := Y 1) (Yj := Y 2) (Yk := Y 0) (αj := α 2) (αk := α 0) (by omega) ?_
      have e : α 1 * Y 1 + α 2 * Y 2 + α 0 * Y 0 = α 0 * Y 0 + α 1 * Y 1 + α 2 * Y 2 := by omega
      rw [e]
      exact m
    · refine ta_alg cs (aj := (A7 0).toInt) (ak := (A7 1).toInt) (Yo := Y 2) (Yj := Y 0) (Yk := Y 1) (αj := α 0) (αk := α 1) (by omega) ?_
      have e : α 2 * Y 2 + α 0 * Y 0 + α 1 * Y 1 = α 0 * Y 0 + α 1 * Y 1 + α 2 * Y 2 := by omega
      rw [e]
      exact m
theorem ta_out {A7 : Nat → Int32} {o : Nat} (ho : o < 3) (W P Q q : Int) (hq : 0 < q) : ∃ (Y : Nat → Int) (q' : Int), 0 < q' ∧ ∀ (α : Nat → Int) (β : Int), ta_LH A7 o α β W P Q q → α 0 * Y 0 + α 1 * Y 1 + α 2 * Y 2 ≤ β * q' := by
  have ho' : o = 0 ∨ o = 1 ∨ o = 2 := by omega
  by_cases z : A7 o = 0
  · refine ⟨fun i => if i = o then W else if i = (o + 1) % 3 then P else Q, q, hq, fun α β h => ?_⟩
    unfold ta_LH ta_w ta_f ta_b at h
    rw [if_pos z, if_pos z, if_pos z, if_pos z] at h
    rcases ho' with rfl | rfl | rfl <;> simp at h ⊢ <;> omega
  · have zp : (A7 o).toInt ≠ 0 := fun q => z ((am_3z _).mpr q)
    have szp : 0 < ta_sz A7 o := by
      unfold ta_sz
      split <;> omega
    refine ⟨fun i => if i = o then ta_sd A7 o * (W - (A7 ((o + 1) % 3)).toInt * P - (A7 ((o + 2) % 3)).toInt * Q) else if i = (o + 1) % 3 then ta_sz A7 o * P else ta_sz A7 o * Q, ta_sz A7 o * q, Int.mul_pos szp hq, fun α β h => ?_⟩
    unfold ta_LH ta_w ta_f ta_b at h
    rw [if_neg z, if_neg z, if_neg z, if_neg z] at h
    generalize ta_sz A7 o = sz at *
    generalize ta_sd A7 o = sd at *
    rcases ho' with rfl | rfl | rfl <;> simp at h ⊢ <;> grind
theorem ta_ineq {post : St1 → Prop} {Fpr Fwo Frw Ftu : Int32} {Fun : Int64} {Fco Ffw Fwc : Int32} {Fwt Fwb : Int64} {Fln Fem Fhh : Int32} {Fht Fhb : Int64} {Fhl : Int32} {Flt Flb : Int64} {Fbr Fl3 Fg3 : Int32} {A1 A2 A3 A4 A5 A6 A7 A8 A9 : Nat → Int32} {A10 : Nat → Int64} {A11 A12 : Nat → Int32} {A13 A14 A15 A16 A17 : Nat → Int64} {A18 A19 : Nat → Int32} {n o r : Nat} {sg : Int} {x : Int32} (hx : x = am_I sg) (hn : Fln = nI n) (hn5 : n < 512) (ho : o < 3) (hr : r < 16) (hs : sg = 1 ∨ sg = -1) (hA7 : ∀ j, j < 3 → (A7 j).toInt.natAbs ≤ 7) (h8 : ∀ i, i < 3 → (A8 (3 * r + i)).toInt.natAbs ≤ 7) (h9 : (A9 r).toInt.natAbs ≤ 600)
    (H : ∀ n' c14 c15 c16 c17, al_new A14 A15 A16 A17 n (ta_w A7 o (fun i => sg * (A8 (3 * r + i)).toInt)) (ta_f A7 o (fun i => sg * (A8 (3 * r + i)).toInt) ((o + 1) % 3)) (ta_f A7 o (fun i => sg * (A8 (3 * r + i)).toInt) ((o + 2) % 3)) (ta_b A7 o (if 0 < sg then (A9 r).toInt else 0)) n' c14 c15 c16 c17 → post (Fpr, Fwo, Frw, Ftu, Fun, Fco, Ffw, Fwc, Fwt, Fwb, (nI n'), Fem, Fhh, Fht, Fhb, Fhl, Flt, Flb, Fbr, Fl3, Fg3, A1, A2, A3, A4, A5, A6, A7, A8, A9, A10, A11, A12, A13, c14, c15, c16, c17, A18, A19)) : wpX_addInequality post (Fpr, Fwo, Frw, Ftu, Fun, Fco, Ffw, Fwc, Fwt, Fwb, Fln, Fem, Fhh, Fht, Fhb, Fhl, Flt, Flb, Fbr, Fl3, Fg3, A1, A2, A3, A4, A5, A6, A7, A8, A9, A10, A11, A12, A13, A14, A15, A16, A17, A18, A19) (nI o) (nI r) x := by
  subst hx
  have hj : (o + 1) % 3 < 3 := Nat.mod_lt _ (by decide)
  have hk : (o + 2) % 3 < 3 := Nat.mod_lt _ (by decide)
  have ej : nI o + 1 - (nI o + 1) / 3 * 3 = nI ((o + 1) % 3) := by
    rw [nI_1]
    exact pk_rem (by omega) (by decide) (by decide)
  have ek : nI o + 2 - (nI o + 2) / 3 * 3 = nI ((o + 2) % 3) := by
    rw [show (2 : Int32) = nI 2 from rfl, nI_add]
    exact pk_rem (by omega) (by decide) (by decide)
  have hα : ∀ i, i < 3 → ((fun i => sg * (A8 (3 * r + i)).toInt) i).natAbs ≤ 7 := by
    intro i hi
    have := h8 i hi
    try dsimp only
    rcases hs with e | e <;> rw [e] <;> omega
  have cell : ∀ i, i < 3 → (am_I sg * A8 (nI r * 3 + nI i).toNatClampNeg).toInt64 = am_L (sg * (A8 (3 * r + i)).toInt) := by
    intro i hi
    rw [rw_cl (by omega) hi, am_Iof (A8 (3 * r + i)), am_Imul, am_IL (am_R3abs (hα i hi) (by omega)), ← am_Iof]
  have bd := ta_bounds (β := if 0 < sg then (A9 r).toInt else 0) hA7 ho hα (by split <;> omega)
  have ao := hA7 o ho
  have go : ∀ z : Int64, z = am_L (if 0 < sg then (A9 r).toInt else 0) → wX_addInequality_84 post (nI ((o + 1) % 3)) (nI ((o + 2) % 3)) (A7 o) (am_L (sg * (A8 (3 * r + o)).toInt)) (am_L (sg * (A8 (3 * r + (o + 1) % 3)).toInt)) (am_L (sg * (A8 (3 * r + (o + 2) % 3)).toInt)) z Fpr Fwo Frw Ftu Fun Fco Ffw Fwc Fwt Fwb Fln Fem Fhh Fht Fhb Fhl Flt Flb Fbr Fl3 Fg3 A1 A2 A3 A4 A5 A6 A7 A8 A9 A10 A11 A12 A13 A14 A15 A16 A17 A18 A19 := by
    intro z ez
    subst ez
    have b2 := bd.2.1 _ hj
    have b3 := bd.2.1 _ hk
    have AL : ∀ w f s b : Int, w = ta_w A7 o (fun i => sg * (A8 (3 * r + i)).toInt) → f = ta_f A7 o (fun i => sg * (A8 (3 * r + i)).toInt) ((o + 1) % 3) → s = ta_f A7 o (fun i => sg * (A8 (3 * r + i)).toInt) ((o + 2) % 3) → b = ta_b A7 o (if 0 < sg then (A9 r).toInt else 0) → wpX_addLine post (Fpr, Fwo, Frw, Ftu, Fun, Fco, Ffw, Fwc, Fwt, Fwb, Fln, Fem, Fhh, Fht, Fhb, Fhl, Flt, Flb, Fbr, Fl3, Fg3, A1, A2, A3, A4, A5, A6, A7, A8, A9, A10, A11, A12, A13, A14, A15, A16, A17, A18, A19) (am_L w) (am_L f) (am_L s) (am_L b) := by
      intro w f s b ew ef es eb
      subst ew ef es eb
      exact al_ok hn hn5 (by omega) (by omega) (by omega) (by omega) H
    refine br_c (fun c0 => ?_) (fun c0 => ?_)
    · refine AL _ _ _ _ ?_ ?_ ?_ ?_
      · rw [ta_w, if_pos c0]
      · rw [ta_f, if_pos c0]
      · rw [ta_f, if_pos c0]
      · rw [ta_b, if_pos c0]
    · have fin : ∀ x s : Int64, x = am_L (ta_sz A7 o) → s = am_L (ta_sd A7 o) → wX_addInequality_133 post (nI ((o + 1) % 3)) (nI ((o + 2) % 3)) (am_L (sg * (A8 (3 * r + o)).toInt)) (am_L (sg * (A8 (3 * r + (o + 1) % 3)).toInt)) (am_L (sg * (A8 (3 * r + (o + 2) % 3)).toInt)) (am_L (if 0 < sg then (A9 r).toInt else 0)) x s Fpr Fwo Frw Ftu Fun Fco Ffw Fwc Fwt Fwb Fln Fem Fhh Fht Fhb Fhl Flt Flb Fbr Fl3 Fg3 A1 A2 A3 A4 A5 A6 A7 A8 A9 A10 A11 A12 A13 A14 A15 A16 A17 A18 A19 := by
        intro x s ex es
        subst ex es
        refine ⟨pk_in _ 3 hj, pk_in _ 3 hk, ?_⟩
        rw [nI_clamp (show (o + 1) % 3 < 2 ^ 31 by omega), nI_clamp (show (o + 2) % 3 < 2 ^ 31 by omega), sz_toL, sz_toL]
        simp only [am_Lmul, am_Lsub]
        refine AL _ _ _ _ ?_ ?_ ?_ ?_
        · rw [ta_w, if_neg c0]
        · rw [ta_f, if_neg c0]
        · rw [ta_f, if_neg c0]
        · rw [ta_b, if_neg c0]
      have key : ∀ z1 : Int64, z1 = am_L (ta_sz A7 o) → wX_addInequality_119 post (nI ((o + 1) % 3)) (nI ((o + 2) % 3)) (A7 o) (am_L (sg * (A8 (3 * r + o)).toInt)) (am_L (sg * (A8 (3 * r + (o + 1) % 3)).toInt)) (am_L (sg * (A8 (3 * r + (o + 2) % 3)).toInt)) (am_L (if 0 < sg then (A9 r).toInt else 0)) z1 Fpr Fwo Frw Ftu Fun Fco Ffw Fwc Fwt Fwb Fln Fem Fhh Fht Fhb Fhl Flt Flb Fbr Fl3 Fg3 A1 A2 A3 A4 A5 A6 A7 A8 A9 A10 A11 A12 A13 A14 A15 A16 A17 A18 A19 := by
        intro z1 e1
        have i0 : (0 : Int32) ≤ A7 o ↔ 0 ≤ (A7 o).toInt := by
          have := am_Ile (a := 0) (b := (A7 o).toInt) ⟨by omega, by omega⟩ (am_IR3 _)
          rw [← am_Iof] at this
          exact this
        refine ek_if i0 (fun y => fin _ _ e1 ?_) (fun y => fin _ _ e1 ?_)
        · rw [ta_sd, if_neg (by omega)]
          rfl
        · rw [ta_sd, if_pos (by omega)]
          rfl
      have i0 : (0 : Int32) ≤ A7 o ↔ 0 ≤ (A7 o).toInt := by
        have := am_Ile (a := 0) (b := (A7 o).toInt) ⟨by omega, by omega⟩ (am_IR3 _)
        rw [← am_Iof] at this
        exact this
      refine ek_if i0 (fun y => key _ ?_) (fun y => key _ ?_)
      · rw [sz_toL, ta_sz, if_neg (by omega)]
      · rw [ta_sz, if_pos (by omega), am_Iof (A7 o), am_Ineg, am_IL ⟨by omega, by omega⟩, ← am_Iof]
  refine ⟨by decide, nm_r ej ⟨by decide, nm_r ek ⟨pk_in o 3 ho, nm_r (e' := A7 o) (by rw [nI_clamp (show o < 2 ^ 31 by omega)]) ⟨rw_in (by omega) (by omega), nm_r (cell o ho) ⟨rw_in (by omega) (by omega), nm_r (cell _ hj) ⟨rw_in (by omega) (by omega), nm_r (cell _ hk) ?_⟩⟩⟩⟩⟩⟩
  have i1 : am_I sg ≤ 0 ↔ sg ≤ 0 := am_Ile (b := 0) ⟨by omega, by omega⟩ ⟨by omega, by omega⟩
  refine ek_if i1 (fun y => go _ ?_) (fun y => ⟨pk_in r 16 hr, go _ ?_⟩)
  · rw [if_neg (by omega)]
    rfl
  · rw [if_pos (by omega), nI_clamp (show r < 2 ^ 31 by omega), sz_toL]
theorem wk_replaced {post : Int32 → Prop} {Fpr Fwo Frw Ftu : Int32} {Fun : Int64} {Fco Ffw Fwc : Int32} {Fwt Fwb : Int64} {Fln Fem Fhh : Int32} {Fht Fhb : Int64} {Fhl : Int32} {Flt Flb : Int64} {Fbr Fl3 Fg3 : Int32} {A1 A2 A3 A4 A5 A6 A7 A8 A9 : Nat → Int32} {A10 : Nat → Int64} {A11 A12 : Nat → Int32} {A13 A14 A15 A16 A17 : Nat → Int64} {A18 A19 : Nat → Int32} (H : ∀ o, o < 3 → post (nI o)) : wpX_replaced post (Fpr, Fwo, Frw, Ftu, Fun, Fco, Ffw, Fwc, Fwt, Fwb, Fln, Fem, Fhh, Fht, Fhb, Fhl, Flt, Flb, Fbr, Fl3, Fg3, A1, A2, A3, A4, A5, A6, A7, A8, A9, A10, A11, A12, A13, A14, A15, A16, A17, A18, A19) := by
  have fin : ∀ i, i < 3 → wX_replaced_22 post (nI i) Fpr Fwo Frw Ftu Fun Fco Ffw Fwc Fwt Fwb Fln Fem Fhh Fht Fhb Fhl Flt Flb Fbr Fl3 Fg3 A1 A2 A3 A4 A5 A6 A7 A8 A9 A10 A11 A12 A13 A14 A15 A16 A17 A18 A19 := fun i hi => ⟨pk_in i 3 hi, br_c (fun _ => H 0 (by omega)) (fun _ => H i hi)⟩
  refine pk_loop (σ := Unit) (fun n i _ => wX_replaced_2 post Fpr Fwo Frw Ftu Fun Fco Ffw Fwc Fwt Fwb Fln Fem Fhh Fht Fhb Fhl Flt Flb Fbr Fl3 Fg3 A1 A2 A3 A4 A5 A6 A7 A8 A9 A10 A11 A12 A13 A14 A15 A16 A17 A18 A19 n (nI i)) (fun _ _ => True) 2 0 () (by omega) trivial ?_ ?_
  · intro n _ _
    exact pk_le 2 2 (fun _ => fin 2 (by omega)) (fun z => absurd z (by omega))
  · intro n i _ hi _ hk
    exact pk_le 2 i (fun z => absurd z (by omega)) (fun _ => ⟨pk_in i 3 (by omega), br_c (fun _ => nm_r (nI_1 i) (hk () trivial)) (fun _ => fin i (by omega))⟩)
end
section
def st_LH (A7 b8 b9 : Nat → Int32) (o : Nat) (sg : Int) (r : Nat) (W P Q q : Int) : Prop := ta_LH A7 o (fun i => sg * (b8 (3 * r + i)).toInt) (if 0 < sg then (b9 r).toInt else 0) W P Q q
theorem st_0 : ∀ i : Fin 3, (((0 : Int32) >>> (nI i.val &&& 31)) &&& 1) = 0 := by decide
theorem st_Y (A5 A6 : Nat → Int32) (X : Nat → Int) (q : Int) {i : Nat} (hi : i < 3) : rw_Y 0 A5 A6 X q i = X i - (A5 i).toInt * q := by
  unfold rw_Y rw_sg rw_fr
  rw [if_pos (st_0 ⟨i, hi⟩), if_pos (st_0 ⟨i, hi⟩), Int.one_mul]
/-- the lines of all rows say what the question says -/
theorem st_to {Fpr Fwo : Int32} {A1 A2 A3 A5 A6 A7 b8 b9 : Nat → Int32} {m o : Nat} (ho : o < 3) (hr : rw_ok Fpr Fwo 0 A1 A2 A3 A5 A6 m b8 b9) {X : Nat → Int} {q : Int} (hF : so_F Fpr Fwo A1 A2 A3 A5 A6 X q) : (∀ r, r < m + 3 → st_LH A7 b8 b9 o 1 r (ta_W A7 o (rw_Y 0 A5 A6 X q)) (rw_Y 0 A5 A6 X q ((o + 1) % 3)) (rw_Y 0 A5 A6 X q ((o + 2) % 3)) q) ∧ (∀ r, m ≤ r → r < m + 3 → st_LH A7 b8 b9 o (-1) r (ta_W A7 o (rw_Y 0 A5 A6 X q)) (rw_Y 0 A5 A6 X q ((o + 1) % 3)) (rw_Y 0 A5 A6 X q ((o + 2) % 3)) q) := by
  obtain ⟨r1, r2, r3, r4, r5, r6⟩ := hr
  obtain ⟨hq, hb, hc⟩ := hF
  constructor
  · intro r hr
    refine ta_in ho _ _ _ _ ?_
    try dsimp only
    rw [if_pos (by decide), Nat.add_zero, Int.one_mul, Int.one_mul, Int.one_mul]
    rcases Nat.lt_or_ge r m with z | z
    · exact (r4 X q).mpr hc r z
    · obtain ⟨i, rfl⟩ : ∃ i, r = m + i := ⟨r - m, by omega⟩
      have v0 := r5 i 0 (by omega) (by decide)
      have v1 := r5 i 1 (by omega) (by decide)
      have v2 := r5 i 2 (by omega) (by decide)
      rw [Nat.add_zero] at v0
      rw [v0, v1, v2, r6 i (by omega)]
      have := ((so_ybox (F := 0)).mpr (hb i (by omega))).2
      have hi' : i = 0 ∨ i = 1 ∨ i = 2 := by omega
      rcases hi' with rfl | rfl | rfl <;> simp <;> exact this
  · intro r hm hr
    refine ta_in ho _ _ _ _ ?_
    try dsimp only
    rw [if_neg (by decide), Nat.add_zero]
    obtain ⟨i, rfl⟩ : ∃ i, r = m + i := ⟨r - m, by omega⟩
    have v0 := r5 i 0 (by omega) (by decide)
    have v1 := r5 i 1 (by omega) (by decide)
    have v2 := r5 i 2 (by omega) (by decide)
    rw [Nat.add_zero] at v0
    rw [v0, v1, v2]
    have := ((so_ybox (F := 0)).mpr (hb i (by omega))).1
    have hi' : i = 0 ∨ i = 1 ∨ i = 2 := by omega
    rcases hi' with rfl | rfl | rfl <;> simp <;> omega
theorem st_from {Fpr Fwo : Int32} {A1 A2 A3 A5 A6 A7 b8 b9 : Nat → Int32} {m o : Nat} (ho : o < 3) (hr : rw_ok Fpr Fwo 0 A1 A2 A3 A5 A6 m b8 b9) {W P Q q : Int} (hq : 0 < q) (h1 : ∀ r, r < m + 3 → st_LH A7 b8 b9 o 1 r W P Q q) (h2 : ∀ r, m ≤ r → r < m + 3 → st_LH A7 b8 b9 o (-1) r W P Q q) : ∃ X q', so_F Fpr Fwo A1 A2 A3 A5 A6 X q' := by
  obtain ⟨Y, q', hq', hY⟩ := ta_out (A7 := A7) ho W P Q q hq
  obtain ⟨r1, r2, r3, r4, r5, r6⟩ := hr
  have eY : ∀ i, i < 3 → rw_Y 0 A5 A6 (fun i => Y i + (A5 i).toInt * q') q' i = Y i := by
    intro i hi
    rw [st_Y _ _ _ _ hi]
    omega
  have rows : ∀ r, r < m + 3 → rw_at b8 b9 r Y q' := by
    intro r hr
    have := hY _ _ (h1 r hr)
    try dsimp only at this
    rw [if_pos (by decide), Nat.add_zero, Int.one_mul, Int.one_mul, Int.one_mul] at this
    exact this
  refine ⟨fun i => Y i + (A5 i).toInt * q', q', hq', fun i hi => ?_, (r4 _ _).mp (fun r hr => ?_)⟩
  · have v0 := r5 i 0 hi (by decide)
    have v1 := r5 i 1 hi (by decide)
    have v2 := r5 i 2 hi (by decide)
    rw [Nat.add_zero] at v0
    have up := rows (m + i) (by omega)
    unfold rw_at at up
    rw [v0, v1, v2, r6 i hi, Int.sub_mul] at up
    have dn := hY _ _ (h2 (m + i) (by omega) (by omega))
    try dsimp only at dn
    rw [if_neg (by decide), Nat.add_zero, v0, v1, v2] at dn
    have hi' : i = 0 ∨ i = 1 ∨ i = 2 := by omega
    rcases hi' with rfl | rfl | rfl <;> simp at up dn ⊢ <;> omega
  · have := rows r (by omega)
    unfold rw_at at this ⊢
    rw [eY 0 (by decide), eY 1 (by decide), eY 2 (by decide)]
    exact this
theorem st_ok {post : Int32 → St1 → Prop} {Fpr Fwo Frw Ftu : Int32} {Fun : Int64} {Fco Ffw Fwc : Int32} {Fwt Fwb : Int64} {Fln Fem Fhh : Int32} {Fht Fhb : Int64} {Fhl : Int32} {Flt Flb : Int64} {Fbr Fl3 Fg3 : Int32} {A1 A2 A3 A4 A5 A6 A7 A8 A9 : Nat → Int32} {A10 : Nat → Int64} {A11 A12 : Nat → Int32} {A13 A14 A15 A16 A17 : Nat → Int64} {A18 A19 : Nat → Int32} (hA1 : ∀ j, j < 15 → (A1 j).toInt.natAbs ≤ 7) (hA3 : ∀ j, j < 5 → (A3 j).toInt.natAbs ≤ 99) (hbx : rw_box A5 A6) (hA7 : ∀ j, j < 3 → (A7 j).toInt.natAbs ≤ 7)
    (H0 : (∀ X q, ¬ so_F Fpr Fwo A1 A2 A3 A5 A6 X q) → ∀ (rq tu : Int32) (wt wb : Int64) (ln em hh : Int32) (ht hb : Int64) (hl : Int32) (lt lb : Int64) (b8 b9 : Nat → Int32) (b14 b15 b16 b17 : Nat → Int64), post 0 (Fpr, Fwo, rq, tu, Fun, Fco, Ffw, Fwc, wt, wb, ln, em, hh, ht, hb, hl, lt, lb, Fbr, Fl3, Fg3, A1, A2, A3, A4, A5, A6, A7, b8, b9, A10, A11, A12, A13, b14, b15, b16, b17, A18, A19))
    (H1 : (∃ X q, so_F Fpr Fwo A1 A2 A3 A5 A6 X q) → ∀ (rq tu : Int32) (wt wb : Int64) (ln em hh : Int32) (ht hb : Int64) (hl : Int32) (lt lb : Int64) (b8 b9 : Nat → Int32) (b14 b15 b16 b17 : Nat → Int64), post 1 (Fpr, Fwo, rq, tu, Fun, Fco, Ffw, Fwc, wt, wb, ln, em, hh, ht, hb, hl, lt, lb, Fbr, Fl3, Fg3, A1, A2, A3, A4, A5, A6, A7, b8, b9, A10, A11, A12, A13, b14, b15, b16, b17, A18, A19)) : wpX_solveByTakingOut post (Fpr, Fwo, Frw, Ftu, Fun, Fco, Ffw, Fwc, Fwt, Fwb, Fln, Fem, Fhh, Fht, Fhb, Fhl, Flt, Flb, Fbr, Fl3, Fg3, A1, A2, A3, A4, A5, A6, A7, A8, A9, A10, A11, A12, A13, A14, A15, A16, A17, A18, A19) := by
  unfold wpX_solveByTakingOut
  refine rw_write hA1 hA3 hbx (fun m b8 b9 hr => ?_)
  obtain ⟨r1, r2, r3, r4, r5, r6⟩ := id hr
  refine wk_replaced (fun o ho => ?_)
  refine pk_loop (fun n r (s : Int32 × (Nat → Int64) × (Nat → Int64) × (Nat → Int64) × (Nat → Int64)) => wX_solveByTakingOut_36 post (nI o) n (nI r) Fpr Fwo (nI (m + 3)) 0 Fun Fco Ffw Fwc Fwt Fwb (s.1) 0 0 Fht Fhb 0 Flt Flb Fbr Fl3 Fg3 A1 A2 A3 A4 A5 A6 A7 b8 b9 A10 A11 A12 A13 (s.2.1) (s.2.2.1) (s.2.2.2.1) (s.2.2.2.2) A18 A19) (fun r s => ∃ n, n ≤ r ∧ s.1 = nI n ∧ fl_b s.2.1 s.2.2.1 s.2.2.2.1 s.2.2.2.2 n 7 98 98 4200 ∧ ∀ W P Q q, (∀ k, k < n → fl_at s.2.1 s.2.2.1 s.2.2.2.1 s.2.2.2.2 k W P Q q) ↔ ∀ r', r' < r → st_LH A7 b8 b9 o 1 r' W P Q q) (m + 3) 0 (0, A14, A15, A16, A17) (by omega) ⟨0, by omega, rfl, fun k hk => absurd hk (by omega), fun W P Q q => ⟨fun _ r' h => absurd h (by omega), fun _ k h => absurd h (by omega)⟩⟩ ?_ ?_
  rotate_left
  · intro f r s hr' ⟨n, hn, es, hb, hS⟩ hk
    obtain ⟨ln, c14, c15, c16, c17⟩ := s
    try dsimp only at es hb hS
    refine pk_le (m + 3) r (fun z => absurd z (by omega)) (fun _ => ta_ineq (sg := 1) am_I1.symm es (by omega) ho (by omega) (Or.inl rfl) hA7 (fun i hi => r2 _ (by omega)) (r3 r hr') (fun n' d14 d15 d16 d17 ha => nm_r (nI_1 r) (hk (nI n', d14, d15, d16, d17) ⟨n', by have := ha.2.1; omega, rfl, ?_, fun W P Q q => ?_⟩)))
    · have bd := ta_bounds (A7 := A7) (o := o) (α := fun i => 1 * (b8 (3 * r + i)).toInt) (β := if 0 < (1 : Int) then (b9 r).toInt else 0) hA7 ho (fun i hi => by
        have := r2 (3 * r + i) (by omega)
        try dsimp only
        omega) (by
        have := r3 r hr'
        rw [if_pos (by decide)]
        omega)
      exact al_b ha hb bd.1 (bd.2.1 _ (Nat.mod_lt _ (by decide))) (bd.2.1 _ (Nat.mod_lt _ (by decide))) bd.2.2
    · rw [al_sem ha W P Q q, hS W P Q q]
      constructor
      · intro ⟨h1, h2⟩
        exact lt_s h1 h2
      · intro h
        exact ⟨fun r' hr'' => h r' (by omega), h r (by omega)⟩
  · intro f s ⟨n, hn, es, hb, hS⟩
    obtain ⟨ln, c14, c15, c16, c17⟩ := s
    try dsimp only at es hb hS
    subst es
    refine pk_le (m + 3) (m + 3) (fun _ => nm_r (e' := nI m) (by rw [show (3 : Int32) = nI 3 from rfl, pk_sub (by omega)]; rfl) ?_) (fun z => absurd z (by omega))
    refine pk_loop (fun n r (s : Int32 × (Nat → Int64) × (Nat → Int64) × (Nat → Int64) × (Nat → Int64)) => wX_solveByTakingOut_64 post (nI o) n (nI r) Fpr Fwo (nI (m + 3)) 0 Fun Fco Ffw Fwc Fwt Fwb (s.1) 0 0 Fht Fhb 0 Flt Flb Fbr Fl3 Fg3 A1 A2 A3 A4 A5 A6 A7 b8 b9 A10 A11 A12 A13 (s.2.1) (s.2.2.1) (s.2.2.2.1) (s.2.2.2.2) A18 A19) (fun r s => m ≤ r ∧ ∃ n, n ≤ r + 3 ∧ s.1 = nI n ∧ fl_b s.2.1 s.2.2.1 s.2.2.2.1 s.2.2.2.2 n 7 98 98 4200 ∧ ∀ W P Q q, (∀ k, k < n → fl_at s.2.1 s.2.2.1 s.2.2.2.1 s.2.2.2.2 k W P Q q) ↔ (∀ r', r' < m + 3 → st_LH A7 b8 b9 o 1 r' W P Q q) ∧ ∀ r', m ≤ r' → r' < r → st_LH A7 b8 b9 o (-1) r' W P Q q) (m + 3) m (nI n, c14, c15, c16, c17) (by omega) ⟨Nat.le_refl m, n, by omega, rfl, hb, fun W P Q q => by
        rw [hS W P Q q]
        exact ⟨fun h => ⟨h, fun r' h1 h2 => absurd h2 (by omega)⟩, fun h => h.1⟩⟩ ?_ ?_
    rotate_left
    · intro f r s hr' ⟨hmr, n, hn, es, hb, hS⟩ hk
      obtain ⟨ln, c14, c15, c16, c17⟩ := s
      try dsimp only at es hb hS
      refine pk_le (m + 3) r (fun z => absurd z (by omega)) (fun _ => ta_ineq (sg := -1) am_Im1.symm es (by omega) ho (by omega) (Or.inr rfl) hA7 (fun i hi => r2 _ (by omega)) (r3 r hr') (fun n' d14 d15 d16 d17 ha => nm_r (nI_1 r) (hk (nI n', d14, d15, d16, d17) ⟨by omega, n', by have := ha.2.1; omega, rfl, ?_, fun W P Q q => ?_⟩)))
      · have bd := ta_bounds (A7 := A7) (o := o) (α := fun i => -1 * (b8 (3 * r + i)).toInt) (β := if 0 < (-1 : Int) then (b9 r).toInt else 0) hA7 ho (fun i hi => by
          have := r2 (3 * r + i) (by omega)
          try dsimp only
          omega) (by
          rw [if_neg (by decide)]
          decide)
        exact al_b ha hb bd.1 (bd.2.1 _ (Nat.mod_lt _ (by decide))) (bd.2.1 _ (Nat.mod_lt _ (by decide))) bd.2.2
      · rw [al_sem ha W P Q q, hS W P Q q]
        constructor
        · intro ⟨⟨h0, h1⟩, h2⟩
          refine ⟨h0, fun r' g1 g2 => ?_⟩
          rcases Nat.lt_or_ge r' r with z | z
          · exact h1 r' g1 z
          · rw [show r' = r by omega]
            exact h2
        · intro ⟨h0, h⟩
          refine ⟨⟨h0, fun r' g1 g2 => h r' g1 (by omega)⟩, ?_⟩
          rcases Nat.lt_or_ge r m with z | z
          · omega
          · exact h r z (by omega)
    · intro f s ⟨_, n, hn, es, hb, hS⟩
      obtain ⟨ln, c14, c15, c16, c17⟩ := s
      try dsimp only at es hb hS
      subst es
      refine pk_le (m + 3) (m + 3) (fun _ => ?_) (fun z => absurd z (by omega))
      refine tf_ok rfl (by omega) hb (fun n2 d14 d15 d16 d17 ht => ?_)
      obtain ⟨t1, t2, t3, t4⟩ := ht
      refine ts_ok rfl t1 t2 rfl rfl rfl (fun Pd em hh ht hB hl lt lb hI sS sZ sP => ?_)
      have no : (¬ em = 0 ∨ (em = 0 ∧ ¬ hh = 0 ∧ ¬ hl = 0 ∧ ¬ lt * hB ≤ ht * lb)) → ∀ X q, ¬ so_F Fpr Fwo A1 A2 A3 A5 A6 X q := by
        intro he X q hF
        have L := (hS _ _ _ _).mpr (st_to (A7 := A7) ho hr hF)
        have D := t3 _ _ _ _ L
        exact bw_no hI he _ _ hF.1 (fun f b hp => sS f b hp _ _ _ D)
      have yes : em = 0 → (¬ hh = 0 → ¬ hl = 0 → lt * hB ≤ ht * lb) → ∃ X q, so_F Fpr Fwo A1 A2 A3 A5 A6 X q := by
        intro he hle
        obtain ⟨W, q, hq, hp⟩ := bw_yes hI he hle
        obtain ⟨Q, t, ht', hQ⟩ := el_ok n2 (fun k => (d16 k).toInt) (fun k => (d17 k).toInt * q - (d14 k).toInt * W) (fun a ha hz => by
          have := hp _ _ (sZ a ha hz)
          try dsimp only
          omega) (fun a b ha hb' fa fb => by
          have := hp _ _ (sP a b ha hb' fa fb)
          unfold ts_f at this
          try dsimp only
          grind)
        obtain ⟨P, t', ht'', hP⟩ := t4 (W * t) Q (q * t) (fun j hj => by
          have := hQ j hj
          try dsimp only at this
          grind)
        have S := (hS _ _ _ _).mp hP
        exact st_from ho hr (Int.mul_pos (Int.mul_pos hq ht') ht'') S.1 S.2
      have end1 : (∃ X q, so_F Fpr Fwo A1 A2 A3 A5 A6 X q) → wX_solveByTakingOut_138 post (nI o) Fpr Fwo (nI (m + 3)) 0 Fun Fco Ffw Fwc Fwt Fwb (nI n2) em hh ht hB hl lt lb Fbr Fl3 Fg3 A1 A2 A3 A4 A5 A6 A7 b8 b9 A10 A11 A12 A13 d14 d15 d16 d17 A18 A19 := by
        intro hX
        refine ⟨pk_in o 3 ho, br_c (fun _ => ⟨pk_in o 3 ho, br_c (fun _ => ?_) (fun _ => ?_)⟩) (fun _ => ⟨pk_in o 3 ho, br_c (fun _ => ?_) (fun _ => ?_)⟩)⟩
        · exact H1 hX _ _ _ _ _ _ _ _ _ _ _ _ _ _ _ _ _ _
        · exact H1 hX _ _ _ _ _ _ _ _ _ _ _ _ _ _ _ _ _ _
        · exact H1 hX _ _ _ _ _ _ _ _ _ _ _ _ _ _ _ _ _ _
        · exact H1 hX _ _ _ _ _ _ _ _ _ _ _ _ _ _ _ _ _ _
      refine br_c (fun e0 => br_c (fun e1 => end1 (yes e0 (fun h => absurd e1 h))) (fun e1 => br_c (fun e2 => end1 (yes e0 (fun _ h => absurd e2 h))) (fun e2 => br_c (fun e3 => end1 (yes e0 (fun _ _ => e3))) (fun e3 => ?_)))) (fun e0 => ?_)
      · exact H0 (no (Or.inr ⟨e0, e1, e2, e3⟩)) _ _ _ _ _ _ _ _ _ _ _ _ _ _ _ _ _ _
      · exact H0 (no (Or.inl e0)) _ _ _ _ _ _ _ _ _ _ _ _ _ _ _ _ _ _
end
section
theorem wk_floor {post : Int64 → Prop} {t q : Int} (hq : 0 < q) (hqb : q ≤ 100000000) (htb : t.natAbs ≤ 10000000000) (H : ∀ f, f * q ≤ t → t < (f + 1) * q → post (am_L f)) : wpX_floor post () (am_L t) (am_L q) := by
  have Rq : am_R q := ⟨by omega, by omega⟩
  have Rt : am_R t := ⟨by omega, by omega⟩
  have qz : ¬ am_L q = 0 := fun z => by
    have := (am_z0 Rq).mp z
    omega
  refine ek_if (am_zl Rq) (fun z => absurd z (by omega)) (fun _ => ⟨qz, ?_⟩)
  rw [am_Ldiv Rt Rq]
  have e := Int.mul_tdiv_add_tmod t q
  have c := Int.mul_comm q (t.tdiv q)
  have r1 : (t.tmod q).natAbs < q.natAbs := by
    have := Int.natAbs_tmod t q
    rw [this]
    exact Nat.mod_lt _ (by omega)
  have zb : (t.tdiv q * q).natAbs ≤ 20000000000 := by omega
  refine ek_if (by rw [am_Lmul]; exact am_Lle (am_Rabs zb (by omega)) Rt) (fun y => H _ y ?_) (fun y => ?_)
  · rw [Int.add_mul]
    omega
  · have e1 : am_L (t.tdiv q) - 1 = am_L (t.tdiv q - 1) := by
      rw [← am_Lsub]
      rfl
    rw [e1]
    refine H _ ?_ ?_
    · rw [Int.sub_mul]
      omega
    · rw [show t.tdiv q - 1 + 1 = t.tdiv q by omega]
      omega
theorem am_nb {x : Int32} (h1 : -128 ≤ x.toInt) (h2 : x.toInt ≤ 127) : vp_nar .byte x = x := by
  have := am_I8n h1 h2
  rw [← am_Iof] at this
  exact this
theorem wk_push {post : St1 → Prop} {Fpr Fwo Frw Ftu : Int32} {Fun : Int64} {Fco Ffw Fwc : Int32} {Fwt Fwb : Int64} {Fln Fem Fhh : Int32} {Fht Fhb : Int64} {Fhl : Int32} {Flt Flb : Int64} {Fbr Fl3 Fg3 : Int32} {A1 A2 A3 A4 A5 A6 A7 A8 A9 : Nat → Int32} {A10 : Nat → Int64} {A11 A12 : Nat → Int32} {A13 A14 A15 A16 A17 : Nat → Int64} {A18 A19 : Nat → Int32} {b : Nat} (hb : Fbr = nI b) (hb6 : b < 64) (hx : rw_box A5 A6) (H : ∀ c18 c19 : Nat → Int32, (∀ j, j < 3 * b → c18 j = A18 j ∧ c19 j = A19 j) → (∀ i, i < 3 → c18 (3 * b + i) = A5 i ∧ c19 (3 * b + i) = A6 i) → post (Fpr, Fwo, Frw, Ftu, Fun, Fco, Ffw, Fwc, Fwt, Fwb, Fln, Fem, Fhh, Fht, Fhb, Fhl, Flt, Flb, (nI (b + 1)), Fl3, Fg3, A1, A2, A3, A4, A5, A6, A7, A8, A9, A10, A11, A12, A13, A14, A15, A16, A17, c18, c19)) : wpX_pushBranch post (Fpr, Fwo, Frw, Ftu, Fun, Fco, Ffw, Fwc, Fwt, Fwb, Fln, Fem, Fhh, Fht, Fhb, Fhl, Flt, Flb, Fbr, Fl3, Fg3, A1, A2, A3, A4, A5, A6, A7, A8, A9, A10, A11, A12, A13, A14, A15, A16, A17, A18, A19) := by
  subst hb
  refine pk_loop (fun n i (s : (Nat → Int32) × (Nat → Int32)) => wX_pushBranch_2 post Fpr Fwo Frw Ftu Fun Fco Ffw Fwc Fwt Fwb Fln Fem Fhh Fht Fhb Fhl Flt Flb (nI b) Fl3 Fg3 n (nI i) A1 A2 A3 A4 A5 A6 A7 A8 A9 A10 A11 A12 A13 A14 A15 A16 A17 (s.1) (s.2)) (fun i s => (∀ j, j < 3 * b → s.1 j = A18 j ∧ s.2 j = A19 j) ∧ ∀ j, j < i → s.1 (3 * b + j) = A5 j ∧ s.2 (3 * b + j) = A6 j) 3 0 (A18, A19) (by omega) ⟨fun _ _ => ⟨rfl, rfl⟩, fun j hj => absurd hj (by omega)⟩ ?_ ?_
  · intro n s ⟨h1, h2⟩
    exact pk_le 3 3 (fun _ => nm_r (nI_1 b) (H s.1 s.2 h1 h2)) (fun z => absurd z (by omega))
  · intro n i s hi ⟨h1, h2⟩ hk
    have q := hx i hi
    have ci : (nI i).toNatClampNeg = i := nI_clamp (by omega)
    refine pk_le 3 i (fun z => absurd z (by omega)) (fun _ => ⟨pk_in i 3 hi, rw_in (by omega) (by omega), nm_r (e' := upd s.1 (3 * b + i) (A5 i)) (by rw [rw_cl (by omega) hi, ci, am_nb (by omega) (by omega)]) ⟨pk_in i 3 hi, rw_in (by omega) (by omega), nm_r (e' := upd s.2 (3 * b + i) (A6 i)) (by rw [rw_cl (by omega) hi, ci, am_nb (by omega) (by omega)]) (nm_r (nI_1 i) (hk (upd s.1 (3 * b + i) (A5 i), upd s.2 (3 * b + i) (A6 i)) ⟨fun j hj => ?_, fun j hj => ?_⟩))⟩⟩)
    · try dsimp only
      rw [pk_un (by omega), pk_un (by omega)]
      exact h1 j hj
    · try dsimp only
      by_cases g : j = i
      · rw [g, pk_us, pk_us]
        exact ⟨rfl, rfl⟩
      · rw [pk_un (by omega), pk_un (by omega)]
        exact h2 j (by omega)
theorem wk_bamount {post : Int32 → Prop} {Fpr Fwo Frw Ftu : Int32} {Fun : Int64} {Fco Ffw Fwc : Int32} {Fwt Fwb : Int64} {Fln Fem Fhh : Int32} {Fht Fhb : Int64} {Fhl : Int32} {Flt Flb : Int64} {Fbr Fl3 Fg3 : Int32} {A1 A2 A3 A4 A5 A6 A7 A8 A9 : Nat → Int32} {A10 : Nat → Int64} {A11 A12 : Nat → Int32} {A13 A14 A15 A16 A17 : Nat → Int64} {A18 A19 : Nat → Int32} {X : Nat → Int} {q : Int} (hq : 0 < q) (hqb : q ≤ 57624) (hX : ∀ i, i < 3 → A13 i = am_L (X i) ∧ (X i).natAbs ≤ 10000000000) (hw : Fwb = am_L q) (H0 : (∀ i, i < 3 → ∃ z, X i = z * q) → post (-1)) (H1 : ∀ i, i < 3 → (∀ z, X i ≠ z * q) → post (nI i)) : wpX_brokenAmount post (Fpr, Fwo, Frw, Ftu, Fun, Fco, Ffw, Fwc, Fwt, Fwb, Fln, Fem, Fhh, Fht, Fhb, Fhl, Flt, Flb, Fbr, Fl3, Fg3, A1, A2, A3, A4, A5, A6, A7, A8, A9, A10, A11, A12, A13, A14, A15, A16, A17, A18, A19) := by
  subst hw
  have Rq : am_R q := ⟨by omega, by omega⟩
  have qz : ¬ am_L q = 0 := fun z => by
    have := (am_z0 Rq).mp z
    omega
  refine pk_loop (σ := Unit) (fun n i _ => wX_brokenAmount_2 post Fpr Fwo Frw Ftu Fun Fco Ffw Fwc Fwt (am_L q) Fln Fem Fhh Fht Fhb Fhl Flt Flb Fbr Fl3 Fg3 A1 A2 A3 A4 A5 A6 A7 A8 A9 A10 A11 A12 A13 A14 A15 A16 A17 A18 A19 n (nI i)) (fun i _ => ∀ j, j < i → ∃ z, X j = z * q) 3 0 () (by omega) (fun j hj => absurd hj (by omega)) ?_ ?_
  · intro n _ h
    exact pk_le 3 3 (fun _ => H0 h) (fun z => absurd z (by omega))
  · intro n i _ hi h hk
    obtain ⟨e, b⟩ := hX i hi
    refine pk_le 3 i (fun z => absurd z (by omega)) (fun _ => br_f qz ⟨pk_in i 3 hi, qz, ?_⟩)
    have Rt : am_R (X i) := ⟨by omega, by omega⟩
    rw [nI_clamp (show i < 2 ^ 31 by omega), e, am_Ldiv Rt Rq, am_Lmul, am_Lsub]
    have t := Int.mul_tdiv_add_tmod (X i) q
    have c := Int.mul_comm q ((X i).tdiv q)
    have r1 : ((X i).tmod q).natAbs < q.natAbs := by
      have := Int.natAbs_tmod (X i) q
      rw [this]
      exact Nat.mod_lt _ (by omega)
    refine ek_if (am_z0 ⟨by omega, by omega⟩) (fun z => nm_r (nI_1 i) (hk () (lt_s h ⟨(X i).tdiv q, by omega⟩))) (fun z => H1 i hi (fun y ey => z ?_))
    rw [ey, Int.mul_comm y q, am_tdiv (by omega)]
    have := Int.mul_comm y q
    omega
/-- a box of the stack; its width and its number of points -/
def bb_r (A : Nat → Int32) (k : Nat) : Nat → Int32 := fun i => A (3 * k + i)
def bb_w (a b : Nat → Int32) : Int := ((b 0).toInt - (a 0).toInt) + ((b 1).toInt - (a 1).toInt) + ((b 2).toInt - (a 2).toInt)
def bb_v (a b : Nat → Int32) : Int := ((b 0).toInt - (a 0).toInt + 1) * ((b 1).toInt - (a 1).toInt + 1) * ((b 2).toInt - (a 2).toInt + 1)
def bb_in (a b : Nat → Int32) (p : Nat → Int) : Prop := ∀ j, j < 3 → (a j).toInt ≤ p j ∧ p j ≤ (b j).toInt
def bb_I (Fpr Fwo : Int32) (A1 A2 A3 L0 H0 : Nat → Int32) (i b : Nat) (x : Int32) (A18 A19 : Nat → Int32) : Prop :=
  (∀ k, k < b → rw_box (bb_r A18 k) (bb_r A19 k) ∧ bb_w (bb_r A18 k) (bb_r A19 k) + k ≤ 60 ∧ ∀ j, j < 3 → (L0 j).toInt ≤ (bb_r A18 k j).toInt ∧ (bb_r A19 k j).toInt ≤ (H0 j).toInt) ∧
  (i : Int) + rw_sum (fun k => 2 * bb_v (bb_r A18 k) (bb_r A19 k) - 1) b ≤ 18521 ∧
  ((x = am_I (-30000000) ∧ ∀ p, so_F Fpr Fwo A1 A2 A3 L0 H0 p 1 → ∃ k, k < b ∧ bb_in (bb_r A18 k) (bb_r A19 k) p) ∨ (∃ z, x = am_I z ∧ z.natAbs ≤ 420 ∧ ∃ p, so_F Fpr Fwo A1 A2 A3 L0 H0 p 1))
theorem bb_sumc {f g : Nat → Int} : ∀ n, (∀ k, k < n → f k = g k) → rw_sum f n = rw_sum g n := by
  intro n
  induction n with
  | zero => intro _; rfl
  | succ n ih =>
    intro h
    show rw_sum f n + f n = rw_sum g n + g n
    rw [ih (fun k hk => h k (by omega)), h n (by omega)]
theorem bb_v1 {a b : Nat → Int32} (h : rw_box a b) : 1 ≤ bb_v a b := by
  have h0 := h 0 (by decide)
  have h1 := h 1 (by decide)
  have h2 := h 2 (by decide)
  unfold bb_v
  have p1 := Int.mul_pos (show 0 < (b 0).toInt - (a 0).toInt + 1 by omega) (show 0 < (b 1).toInt - (a 1).toInt + 1 by omega)
  have p2 := Int.mul_pos p1 (show 0 < (b 2).toInt - (a 2).toInt + 1 by omega)
  omega
theorem bb_pos {A18 A19 : Nat → Int32} : ∀ n, (∀ k, k < n → rw_box (bb_r A18 k) (bb_r A19 k)) → 0 ≤ rw_sum (fun k => 2 * bb_v (bb_r A18 k) (bb_r A19 k) - 1) n := by
  intro n
  induction n with
  | zero => intro _; exact Int.le_refl 0
  | succ n ih =>
    intro h
    have a := ih (fun k hk => h k (by omega))
    have b := bb_v1 (h n (by omega))
    show 0 ≤ rw_sum (fun k => 2 * bb_v (bb_r A18 k) (bb_r A19 k) - 1) n + (2 * bb_v (bb_r A18 n) (bb_r A19 n) - 1)
    omega
theorem bb_pop {Fpr Fwo : Int32} {A1 A2 A3 L0 H0 : Nat → Int32} {i b : Nat} {x y : Int32} {A18 A19 : Nat → Int32} (h : bb_I Fpr Fwo A1 A2 A3 L0 H0 i (b + 1) x A18 A19)
    (hy : (y = x ∧ ((∃ z, x = am_I z ∧ z.natAbs ≤ 420 ∧ ∃ p, so_F Fpr Fwo A1 A2 A3 L0 H0 p 1) ∨ ∀ p, so_F Fpr Fwo A1 A2 A3 L0 H0 p 1 → ¬ bb_in (bb_r A18 b) (bb_r A19 b) p)) ∨ (∃ z, y = am_I z ∧ z.natAbs ≤ 420 ∧ ∃ p, so_F Fpr Fwo A1 A2 A3 L0 H0 p 1)) : bb_I Fpr Fwo A1 A2 A3 L0 H0 (i + 1) b y A18 A19 := by
  obtain ⟨h1, h2, h3⟩ := h
  have v := bb_v1 (h1 b (by omega)).1
  have h2' : (i : Int) + (rw_sum (fun k => 2 * bb_v (bb_r A18 k) (bb_r A19 k) - 1) b + (2 * bb_v (bb_r A18 b) (bb_r A19 b) - 1)) ≤ 18521 := h2
  refine ⟨fun k hk => h1 k (by omega), by omega, ?_⟩
  rcases hy with ⟨e, hz | hn⟩ | hz
  · rw [e]
    exact Or.inr hz
  · rw [e]
    rcases h3 with ⟨e1, g⟩ | g
    · refine Or.inl ⟨e1, fun p hp => ?_⟩
      obtain ⟨k, hk, hin⟩ := g p hp
      rcases Nat.lt_or_ge k b with q | q
      · exact ⟨k, q, hin⟩
      · rw [show k = b by omega] at hin
        exact absurd hin (hn p hp)
    · exact Or.inr g
  · exact Or.inr hz
theorem bb_r0 {A B : Nat → Int32} {b k : Nat} (h : ∀ j, j < 3 * b → A j = B j) (hk : k < b) {j : Nat} (hj : j < 3) : bb_r A k j = bb_r B k j := h _ (by omega)
theorem bb_boxc {a b c d : Nat → Int32} (h1 : ∀ j, j < 3 → a j = c j) (h2 : ∀ j, j < 3 → b j = d j) : (rw_box a b ↔ rw_box c d) ∧ bb_w a b = bb_w c d ∧ bb_v a b = bb_v c d ∧ ∀ p, bb_in a b p ↔ bb_in c d p := by
  refine ⟨?_, ?_, ?_, fun p => ?_⟩
  · constructor
    · intro h i hi
      have := h i hi
      rw [h1 i hi, h2 i hi] at this
      exact this
    · intro h i hi
      have := h i hi
      rw [← h1 i hi, ← h2 i hi] at this
      exact this
  · unfold bb_w
    rw [h1 0 (by decide), h1 1 (by decide), h1 2 (by decide), h2 0 (by decide), h2 1 (by decide), h2 2 (by decide)]
  · unfold bb_v
    rw [h1 0 (by decide), h1 1 (by decide), h1 2 (by decide), h2 0 (by decide), h2 1 (by decide), h2 2 (by decide)]
  · constructor
    · intro h i hi
      have := h i hi
      rw [h1 i hi, h2 i hi] at this
      exact this
    · intro h i hi
      have := h i hi
      rw [← h1 i hi, ← h2 i hi] at this
      exact this
/-- a box is parted at amount t: w and w + 1 -/
theorem bb_part {a b c d : Nat → Int32} {t : Nat} {w : Int} (ht : t < 3) (h : rw_box a b) (hw1 : (a t).toInt ≤ w) (hw2 : w < (b t).toInt) (hc : ∀ j, j < 3 → j ≠ t → (c j).toInt = (b j).toInt) (hct : (c t).toInt = w) (hd : ∀ j, j < 3 → j ≠ t → (d j).toInt = (a j).toInt) (hdt : (d t).toInt = w + 1) :
    rw_box a c ∧ rw_box d b ∧ bb_w a c + 1 ≤ bb_w a b ∧ bb_w d b + 1 ≤ bb_w a b ∧ bb_v a c + bb_v d b = bb_v a b ∧ ∀ p, bb_in a b p → bb_in a c p ∨ bb_in d b p := by
  have h0 := h 0 (by decide)
  have h1 := h 1 (by decide)
  have h2 := h 2 (by decide)
  have ht' : t = 0 ∨ t = 1 ∨ t = 2 := by omega
  refine ⟨fun i hi => ?_, fun i hi => ?_, ?_, ?_, ?_, fun p hp => ?_⟩
  · have := h i hi
    rcases Nat.decEq i t with z | z
    · rw [hc i hi z]
      exact this
    · rw [z, hct]
      rw [z] at this
      omega
  · have := h i hi
    rcases Nat.decEq i t with z | z
    · rw [hd i hi z]
      exact this
    · rw [z, hdt]
      rw [z] at this
      omega
  · unfold bb_w
    rcases ht' with rfl | rfl | rfl
    · rw [hct, hc 1 (by decide) (by decide), hc 2 (by decide) (by decide)]; omega
    · rw [hct, hc 0 (by decide) (by decide), hc 2 (by decide) (by decide)]; omega
    · rw [hct, hc 1 (by decide) (by decide), hc 0 (by decide) (by decide)]; omega
  · unfold bb_w
    rcases ht' with rfl | rfl | rfl
    · rw [hdt, hd 1 (by decide) (by decide), hd 2 (by decide) (by decide)]; omega
    · rw [hdt, hd 0 (by decide) (by decide), hd 2 (by decide) (by decide)]; omega
    · rw [hdt, hd 1 (by decide) (by decide), hd 0 (by decide) (by decide)]; omega
  · unfold bb_v
    rcases ht' with rfl | rfl | rfl
    · rw [hct, hc 1 (by decide) (by decide), hc 2 (by decide) (by decide), hdt, hd 1 (by decide) (by decide), hd 2 (by decide) (by decide)]; grind
    · rw [hct, hc 0 (by decide) (by decide), hc 2 (by decide) (by decide), hdt, hd 0 (by decide) (by decide), hd 2 (by decide) (by decide)]; grind
    · rw [hct, hc 1 (by decide) (by decide), hc 0 (by decide) (by decide), hdt, hd 1 (by decide) (by decide), hd 0 (by decide) (by decide)]; grind
  · have pt := hp t ht
    rcases am_lg w (p t) with z | z
    · right
      intro j hj
      have := hp j hj
      rcases Nat.decEq j t with y | y
      · rw [hd j hj y]
        exact this
      · rw [y, hdt]
        omega
    · left
      intro j hj
      have := hp j hj
      rcases Nat.decEq j t with y | y
      · rw [hc j hj y]
        exact this
      · rw [y, hct]
        omega
theorem bb_split {Fpr Fwo : Int32} {A1 A2 A3 L0 H0 : Nat → Int32} {i b t : Nat} {x : Int32} {A18 A19 c18 c19 c d : Nat → Int32} {w : Int} (h : bb_I Fpr Fwo A1 A2 A3 L0 H0 i (b + 1) x A18 A19) (ht : t < 3) (hw1 : (bb_r A18 b t).toInt ≤ w) (hw2 : w < (bb_r A19 b t).toInt)
    (hc : ∀ j, j < 3 → j ≠ t → (c j).toInt = (bb_r A19 b j).toInt) (hct : (c t).toInt = w) (hd : ∀ j, j < 3 → j ≠ t → (d j).toInt = (bb_r A18 b j).toInt) (hdt : (d t).toInt = w + 1)
    (e1 : ∀ j, j < 3 * b → c18 j = A18 j ∧ c19 j = A19 j) (e2 : ∀ j, j < 3 → bb_r c18 b j = bb_r A18 b j ∧ bb_r c19 b j = c j) (e3 : ∀ j, j < 3 → bb_r c18 (b + 1) j = d j ∧ bb_r c19 (b + 1) j = bb_r A19 b j) :
    bb_I Fpr Fwo A1 A2 A3 L0 H0 (i + 1) (b + 2) x c18 c19 := by
  obtain ⟨h1, h2, h3⟩ := h
  obtain ⟨hb1, hb2, hb3⟩ := h1 b (by omega)
  obtain ⟨q1, q2, q3, q4, q5, q6⟩ := bb_part ht hb1 hw1 hw2 hc hct hd hdt
  have O : ∀ k, k < b → (rw_box (bb_r c18 k) (bb_r c19 k) ↔ rw_box (bb_r A18 k) (bb_r A19 k)) ∧ bb_w (bb_r c18 k) (bb_r c19 k) = bb_w (bb_r A18 k) (bb_r A19 k) ∧ bb_v (bb_r c18 k) (bb_r c19 k) = bb_v (bb_r A18 k) (bb_r A19 k) ∧ ∀ p, bb_in (bb_r c18 k) (bb_r c19 k) p ↔ bb_in (bb_r A18 k) (bb_r A19 k) p :=
    fun k hk => bb_boxc (fun j hj => bb_r0 (fun j hj => (e1 j hj).1) hk hj) (fun j hj => bb_r0 (fun j hj => (e1 j hj).2) hk hj)
  have B := bb_boxc (a := bb_r c18 b) (b := bb_r c19 b) (c := bb_r A18 b) (d := c) (fun j hj => (e2 j hj).1) (fun j hj => (e2 j hj).2)
  have C := bb_boxc (a := bb_r c18 (b + 1)) (b := bb_r c19 (b + 1)) (c := d) (d := bb_r A19 b) (fun j hj => (e3 j hj).1) (fun j hj => (e3 j hj).2)
  refine ⟨fun k hk => ?_, ?_, ?_⟩
  · rcases Nat.lt_or_ge k b with z | z
    · obtain ⟨o1, o2, _, _⟩ := O k z
      obtain ⟨g1, g2, g3⟩ := h1 k (by omega)
      refine ⟨o1.mpr g1, by rw [o2]; exact g2, fun j hj => ?_⟩
      have := g3 j hj
      rw [← bb_r0 (fun j hj => (e1 j hj).1) z hj, ← bb_r0 (fun j hj => (e1 j hj).2) z hj] at this
      exact this
    · rcases Nat.lt_or_ge k (b + 1) with y | y
      · rw [show k = b by omega]
        refine ⟨B.1.mpr q1, by rw [B.2.1]; omega, fun j hj => ?_⟩
        have := hb3 j hj
        rw [(e2 j hj).1, (e2 j hj).2]
        rcases Nat.decEq j t with u | u
        · rw [hc j hj u]
          exact this
        · rw [u, hct]
          rw [u] at this
          omega
      · rw [show k = b + 1 by omega]
        refine ⟨C.1.mpr q2, by rw [C.2.1]; omega, fun j hj => ?_⟩
        have := hb3 j hj
        rw [(e3 j hj).1, (e3 j hj).2]
        rcases Nat.decEq j t with u | u
        · rw [hd j hj u]
          exact this
        · rw [u, hdt]
          rw [u] at this
          omega
  · have h2' : (i : Int) + (rw_sum (fun k => 2 * bb_v (bb_r A18 k) (bb_r A19 k) - 1) b + (2 * bb_v (bb_r A18 b) (bb_r A19 b) - 1)) ≤ 18521 := h2
    show ((i + 1 : Nat) : Int) + (rw_sum (fun k => 2 * bb_v (bb_r c18 k) (bb_r c19 k) - 1) b + (2 * bb_v (bb_r c18 b) (bb_r c19 b) - 1) + (2 * bb_v (bb_r c18 (b + 1)) (bb_r c19 (b + 1)) - 1)) ≤ 18521
    rw [bb_sumc (g := fun k => 2 * bb_v (bb_r A18 k) (bb_r A19 k) - 1) b (fun k hk => by
      try dsimp only
      rw [(O k hk).2.2.1]), B.2.2.1, C.2.2.1]
    omega
  · rcases h3 with ⟨e, g⟩ | g
    · refine Or.inl ⟨e, fun p hp => ?_⟩
      obtain ⟨k, hk, hin⟩ := g p hp
      rcases Nat.lt_or_ge k b with z | z
      · exact ⟨k, by omega, ((O k z).2.2.2 p).mpr hin⟩
      · rw [show k = b by omega] at hin
        rcases q6 p hin with y | y
        · exact ⟨b, by omega, (B.2.2.2 p).mpr y⟩
        · exact ⟨b + 1, by omega, (C.2.2.2 p).mpr y⟩
    · exact Or.inr g
end
section
theorem wk_branch {post : Int32 → St1 → Prop} {Fpr Fwo Frw Ftu : Int32} {Fun : Int64} {Fco Ffw Fwc : Int32} {Fwt Fwb : Int64} {Fln Fem Fhh : Int32} {Fht Fhb : Int64} {Fhl : Int32} {Flt Flb : Int64} {Fbr Fl3 Fg3 : Int32} {A1 A2 A3 A4 A5 A6 A7 A8 A9 : Nat → Int32} {A10 : Nat → Int64} {A11 A12 : Nat → Int32} {A13 A14 A15 A16 A17 : Nat → Int64} {A18 A19 : Nat → Int32} {b : Nat} {X : Nat → Int} {q : Int} {p0 p1 : Int32} (hbr : Fbr = nI b) (hb6 : b + 2 ≤ 64) (hx : rw_box A5 A6) (hq : 0 < q) (hqb : q ≤ 57624) (hX : ∀ i, i < 3 → A13 i = am_L (X i) ∧ (A5 i).toInt * q ≤ X i ∧ X i ≤ (A6 i).toInt * q) (hw : Fwb = am_L q)
    (HI : (∀ i, i < 3 → ∃ z, X i = z * q) → post p1 (Fpr, Fwo, Frw, Ftu, Fun, Fco, Ffw, Fwc, Fwt, Fwb, Fln, Fem, Fhh, Fht, Fhb, Fhl, Flt, Flb, Fbr, Fl3, Fg3, A1, A2, A3, A4, A5, A6, A7, A8, A9, A10, A11, A12, A13, A14, A15, A16, A17, A18, A19))
    (HS : ∀ (t : Nat) (w : Int) (c d b5 b6 c18 c19 : Nat → Int32), t < 3 → (A5 t).toInt ≤ w → w < (A6 t).toInt → (∀ j, j < 3 → j ≠ t → (c j).toInt = (A6 j).toInt) → (c t).toInt = w → (∀ j, j < 3 → j ≠ t → (d j).toInt = (A5 j).toInt) → (d t).toInt = w + 1 → (∀ j, j < 3 * b → c18 j = A18 j ∧ c19 j = A19 j) → (∀ j, j < 3 → bb_r c18 b j = A5 j ∧ bb_r c19 b j = c j) → (∀ j, j < 3 → bb_r c18 (b + 1) j = d j ∧ bb_r c19 (b + 1) j = A6 j) → post p0 (Fpr, Fwo, Frw, Ftu, Fun, Fco, Ffw, Fwc, Fwt, Fwb, Fln, Fem, Fhh, Fht, Fhb, Fhl, Flt, Flb, (nI (b + 2)), Fl3, Fg3, A1, A2, A3, A4, b5, b6, A7, A8, A9, A10, A11, A12, A13, A14, A15, A16, A17, c18, c19)) : wpX_branch post (Fpr, Fwo, Frw, Ftu, Fun, Fco, Ffw, Fwc, Fwt, Fwb, Fln, Fem, Fhh, Fht, Fhb, Fhl, Flt, Flb, Fbr, Fl3, Fg3, A1, A2, A3, A4, A5, A6, A7, A8, A9, A10, A11, A12, A13, A14, A15, A16, A17, A18, A19) p0 p1 := by
  subst hw
  have Xb : ∀ i, i < 3 → (X i).natAbs ≤ 10000000000 := by
    intro i hi
    obtain ⟨_, h1, h2⟩ := hX i hi
    have bx := hx i hi
    have m1 := Int.mul_nonneg bx.1 (show 0 ≤ q by omega)
    have m2 := Int.mul_le_mul_of_nonneg_right bx.2.2 (show 0 ≤ q by omega)
    omega
  unfold wpX_branch
  refine wk_bamount hq hqb (fun i hi => ⟨(hX i hi).1, Xb i hi⟩) rfl (fun h => br_f (by decide) (HI h)) (fun t ht hnd => br_t (nI_pos' (by omega)) ⟨pk_in t 3 ht, ?_⟩)
  have ct : (nI t).toNatClampNeg = t := nI_clamp (by omega)
  obtain ⟨eX, l1, l2⟩ := hX t ht
  rw [ct, eX]
  refine wk_floor hq (by omega) (Xb t ht) (fun w f1 f2 => ?_)
  have bx := hx t ht
  have w1 : (A5 t).toInt ≤ w := by
    have : (A5 t).toInt * q < (w + 1) * q := by omega
    have := Int.lt_of_mul_lt_mul_right this (by omega)
    omega
  have w2 : w < (A6 t).toInt := by
    have ne := hnd w
    have : w * q < (A6 t).toInt * q := by omega
    exact Int.lt_of_mul_lt_mul_right this (by omega)
  have ew : (am_L w).toInt32.toInt8.toInt32 = am_I w := by rw [am_LI, am_I8 (by omega) (by omega)]
  have ew1 : ((am_L w).toInt32 + 1).toInt8.toInt32 = am_I (w + 1) := by
    rw [am_LI, show (1 : Int32) = am_I 1 from rfl, am_Iadd, am_I8 (by omega) (by omega)]
  refine ⟨pk_in t 3 ht, nm_e ⟨pk_in t 3 ht, nm_e ⟨pk_in t 3 ht, nm_r (e' := upd A6 t (am_I w)) (by rw [ew]) ?_⟩⟩⟩
  have ci : ∀ z : Int, 0 ≤ z → z ≤ 21 → (am_I z).toInt = z := fun z h1 h2 => am_Iint ⟨by omega, by omega⟩
  have box1 : rw_box A5 (upd A6 t (am_I w)) := by
    intro i hi
    have := hx i hi
    by_cases g : i = t
    · rw [g, pk_us, ci w (by omega) (by omega)]
      omega
    · rw [pk_un g]
      exact this
  refine wk_push hbr (by omega) box1 (fun c18 c19 g1 g2 => ⟨pk_in t 3 ht, nm_r (e' := upd A5 t (am_I (w + 1))) (by rw [ew1]) ⟨pk_in t 3 ht, nm_r (e' := upd (upd A6 t (am_I w)) t (A6 t)) (by rw [am_nb (by omega) (by omega)]) ?_⟩⟩)
  have a6 : ∀ j, upd (upd A6 t (am_I w)) t (A6 t) j = A6 j := by
    intro j
    by_cases g : j = t
    · rw [g, pk_us]
    · rw [pk_un g, pk_un g]
  have box2 : rw_box (upd A5 t (am_I (w + 1))) (upd (upd A6 t (am_I w)) t (A6 t)) := by
    intro i hi
    rw [a6 i]
    have := hx i hi
    by_cases g : i = t
    · rw [g, pk_us, ci (w + 1) (by omega) (by omega)]
      omega
    · rw [pk_un g]
      exact this
  refine wk_push (b := b + 1) rfl (by omega) box2 (fun e18 e19 h1 h2 => ⟨pk_in t 3 ht, nm_e (HS t w (upd A6 t (am_I w)) (upd A5 t (am_I (w + 1))) _ _ e18 e19 ht w1 w2 (fun j hj g => by rw [pk_un g]) (by rw [pk_us, ci w (by omega) (by omega)]) (fun j hj g => by rw [pk_un g]) (by rw [pk_us, ci (w + 1) (by omega) (by omega)]) (fun j hj => ?_) (fun j hj => ?_) (fun j hj => ?_))⟩)
  · obtain ⟨x, y⟩ := h1 j (by omega)
    obtain ⟨u, v⟩ := g1 j hj
    rw [x, y]
    exact ⟨u, v⟩
  · unfold bb_r
    obtain ⟨x, y⟩ := h1 (3 * b + j) (by omega)
    obtain ⟨u, v⟩ := g2 j hj
    rw [x, y]
    exact ⟨u, v⟩
  · unfold bb_r
    obtain ⟨x, y⟩ := h2 j hj
    rw [x, y, a6 j]
    exact ⟨rfl, rfl⟩
/-- points of whole numbers out of amounts that are multiples -/
theorem bb_whole {Fpr Fwo : Int32} {A1 A2 A3 L H L0 H0 : Nat → Int32} {X : Nat → Int} {q : Int} (hF : so_F Fpr Fwo A1 A2 A3 L H X q) (hz : ∀ i, i < 3 → ∃ z, X i = z * q) (hL : ∀ j, j < 3 → (L0 j).toInt ≤ (L j).toInt ∧ (H j).toInt ≤ (H0 j).toInt) : ∃ p, so_F Fpr Fwo A1 A2 A3 L0 H0 p 1 := by
  obtain ⟨hq, hb, hc⟩ := hF
  obtain ⟨z0, e0⟩ := hz 0 (by decide)
  obtain ⟨z1, e1⟩ := hz 1 (by decide)
  obtain ⟨z2, e2⟩ := hz 2 (by decide)
  have ez : ∀ i, i < 3 → X i = (fun i => if i = 0 then z0 else if i = 1 then z1 else z2) i * q := by
    intro i hi
    have hi' : i = 0 ∨ i = 1 ∨ i = 2 := by omega
    rcases hi' with rfl | rfl | rfl
    · exact e0
    · exact e1
    · exact e2
  refine ⟨fun i => if i = 0 then z0 else if i = 1 then z1 else z2, by decide, fun i hi => ?_, fun k hk h1 h2 => ?_⟩
  · have := hb i hi
    have l := hL i hi
    rw [ez i hi] at this
    have a := Int.le_of_mul_le_mul_right this.1 hq
    have b := Int.le_of_mul_le_mul_right this.2 hq
    try dsimp only at a b ⊢
    omega
  · have := hc k hk h1 h2
    unfold rw_c rw_dot at *
    rw [e0, e1, e2] at this
    have e : (A1 (3 * k)).toInt * (z0 * q) + (A1 (3 * k + 1)).toInt * (z1 * q) + (A1 (3 * k + 2)).toInt * (z2 * q) = ((A1 (3 * k)).toInt * z0 + (A1 (3 * k + 1)).toInt * z1 + (A1 (3 * k + 2)).toInt * z2) * q := by grind
    rw [e] at this
    constructor
    · intro h
      have := Int.le_of_mul_le_mul_right (this.1 h) hq
      simp
      omega
    · intro h
      have := this.2 h
      have := Int.le_of_mul_le_mul_right (show (A3 k).toInt * q ≤ ((A1 (3 * k)).toInt * z0 + (A1 (3 * k + 1)).toInt * z1 + (A1 (3 * k + 2)).toInt * z2) * q by omega) hq
      simp
      omega
theorem so_Wb {A7 : Nat → Int32} {X : Nat → Int} {q : Int} (hA7 : ∀ j, j < 3 → (A7 j).toInt.natAbs ≤ 7) (hq : 0 < q) (hX : ∀ i, i < 3 → 0 ≤ X i ∧ X i ≤ 20 * q) : -(420 * q) ≤ so_W A7 X 0 ∧ so_W A7 X 0 ≤ 420 * q := by
  have one : ∀ i, i < 3 → -(140 * q) ≤ fm_nm A7 0 i * X i ∧ fm_nm A7 0 i * X i ≤ 140 * q := by
    intro i hi
    have a := fm_nmb hA7 0 hi
    have b := hX i hi
    have m1 := Int.mul_nonneg (show 0 ≤ 7 - fm_nm A7 0 i by omega) b.1
    have m2 := Int.mul_nonneg (show 0 ≤ 7 + fm_nm A7 0 i by omega) b.1
    rw [Int.sub_mul] at m1
    rw [Int.add_mul] at m2
    omega
  unfold so_W
  have := one 0 (by decide)
  have := one 1 (by decide)
  have := one 2 (by decide)
  omega
theorem bw_run {post : Int32 → St1 → Prop} {Fpr Fwo Fln Fem Fhh : Int32} {Fht Fhb : Int64} {Fhl : Int32} {Flt Flb : Int64} {Fl3 Fg3 : Int32} {A1 A2 A3 A4 A7 : Nat → Int32} {A14 A15 A16 A17 : Nat → Int64} {L0 H0 : Nat → Int32} (hA1 : ∀ j, j < 15 → (A1 j).toInt.natAbs ≤ 7) (hA3 : ∀ j, j < 5 → (A3 j).toInt.natAbs ≤ 99) (hA7 : ∀ j, j < 3 → (A7 j).toInt.natAbs ≤ 7)
    (H : ∀ (x : Int32) (rq tu : Int32) (un : Int64) (co fw wc : Int32) (wt wb : Int64) (b8 b9 : Nat → Int32) (b10 : Nat → Int64) (b11 b12 : Nat → Int32) (b13 : Nat → Int64) (br : Int32) (b5 b6 b18 b19 : Nat → Int32), ((x = am_I (-30000000) ∧ ∀ p, ¬ so_F Fpr Fwo A1 A2 A3 L0 H0 p 1) ∨ (∃ z, x = am_I z ∧ z.natAbs ≤ 420 ∧ ∃ p, so_F Fpr Fwo A1 A2 A3 L0 H0 p 1)) → post x (Fpr, Fwo, rq, tu, un, co, fw, wc, wt, wb, Fln, Fem, Fhh, Fht, Fhb, Fhl, Flt, Flb, br, Fl3, Fg3, A1, A2, A3, A4, b5, b6, A7, b8, b9, b10, b11, b12, b13, A14, A15, A16, A17, b18, b19)) :
    ∀ (f i : Nat) (x : Int32) (rq tu : Int32) (un : Int64) (co fw wc : Int32) (wt wb : Int64) (b8 b9 : Nat → Int32) (b10 : Nat → Int64) (b11 b12 : Nat → Int32) (b13 : Nat → Int64) (b : Nat) (b5 b6 b18 b19 : Nat → Int32), bb_I Fpr Fwo A1 A2 A3 L0 H0 i b x b18 b19 → 20000 ≤ i + f → wX_bestWhole_14 post (f + 1) x (nI i) Fpr Fwo rq tu un co fw wc wt wb Fln Fem Fhh Fht Fhb Fhl Flt Flb (nI b) Fl3 Fg3 A1 A2 A3 A4 b5 b6 A7 b8 b9 b10 b11 b12 b13 A14 A15 A16 A17 b18 b19 := by
  intro f
  induction f with
  | zero =>
    intro i x rq tu un co fw wc wt wb b8 b9 b10 b11 b12 b13 b b5 b6 b18 b19 hI hf
    have := bb_pos b (fun k hk => (hI.1 k hk).1)
    have := hI.2.1
    exact absurd hf (by omega)
  | succ f ih =>
    intro i x rq tu un co fw wc wt wb b8 b9 b10 b11 b12 b13 b b5 b6 b18 b19 hI hf
    have ps := bb_pos b (fun k hk => (hI.1 k hk).1)
    have hi : i ≤ 18521 := by
      have := hI.2.1
      omega
    have hb61 : b ≤ 61 := by
      rcases Nat.lt_or_ge b 62 with z | z
      · omega
      · obtain ⟨g1, g2, _⟩ := hI.1 61 (by omega)
        have q0 := g1 0 (by decide)
        have q1 := g1 1 (by decide)
        have q2 := g1 2 (by decide)
        unfold bb_w at g2
        omega
    refine pk_le 20000 i (fun z => absurd z (by omega)) (fun _ => pk_le b 0 (fun z => ?_) (fun z => ?_))
    · have hb0 : b = 0 := by omega
      refine H x _ _ _ _ _ _ _ _ _ _ _ _ _ _ _ _ _ _ _ ?_
      rcases hI.2.2 with ⟨e, g⟩ | g
      · refine Or.inl ⟨e, fun p hp => ?_⟩
        obtain ⟨k, hk, _⟩ := g p hp
        omega
      · exact Or.inr g
    · obtain ⟨c, rfl⟩ : ∃ c, b = c + 1 := ⟨b - 1, by omega⟩
      refine nm_r (nI_pred c) ?_
      obtain ⟨k1, k2, k3⟩ := hI.1 c (by omega)
      refine pk_loop (fun n j (s : (Nat → Int32) × (Nat → Int32)) => wX_bestWhole_40 post (wX_bestWhole_14 post (f + 1)) x (nI i) Fpr Fwo rq tu un co fw wc wt wb Fln Fem Fhh Fht Fhb Fhl Flt Flb (nI c) Fl3 Fg3 n (nI j) A1 A2 A3 A4 (s.1) (s.2) A7 b8 b9 b10 b11 b12 b13 A14 A15 A16 A17 b18 b19) (fun i s => ∀ j, j < i → s.1 j = b18 (3 * c + j) ∧ s.2 j = b19 (3 * c + j)) 3 0 (b5, b6) (by omega) (fun j hj => absurd hj (by omega)) ?_ ?_
      · intro n s hs
        obtain ⟨s5, s6⟩ := s
        try dsimp only at hs
        have e5 : ∀ j, j < 3 → s5 j = bb_r b18 c j := fun j hj => (hs j hj).1
        have e6 : ∀ j, j < 3 → s6 j = bb_r b19 c j := fun j hj => (hs j hj).2
        have bc := bb_boxc e5 e6
        have bx : rw_box s5 s6 := bc.1.mpr k1
        have sub : ∀ p, so_F Fpr Fwo A1 A2 A3 L0 H0 p 1 → bb_in (bb_r b18 c) (bb_r b19 c) p → so_F Fpr Fwo A1 A2 A3 s5 s6 p 1 := by
          intro p hp hin
          refine ⟨by decide, fun j hj => ?_, hp.2.2⟩
          have := (bc.2.2.2 p).mpr hin j hj
          omega
        refine pk_le 3 3 (fun _ => sp_ok hA1 hA3 bx hA7 (fun no rq tu un co fw wc wt wb b8 b9 b10 b11 b12 b13 => br_t rfl (nm_r (nI_1 i) (ih (i + 1) x _ _ _ _ _ _ _ _ _ _ _ _ _ _ c _ _ _ _ (bb_pop hI (Or.inl ⟨rfl, Or.inr (fun p hp hin => no p 1 (sub p hp hin))⟩)) (by omega)))) (fun X q hO hqb rq tu un co fw wc wt wb b8 b9 b10 b11 b12 b13 h13 hwt hwb => br_f (by decide) ?_)) (fun z => absurd z (by omega))
        have hq := hO.1.1
        have hX : ∀ i, i < 3 → 0 ≤ X i ∧ X i ≤ 20 * q := by
          intro i hi
          have a := hO.1.2.1 i hi
          dsimp only at a
          have b := bx i hi
          have m1 := Int.mul_nonneg b.1 (show 0 ≤ q by omega)
          have m2 := Int.mul_le_mul_of_nonneg_right b.2.2 (show 0 ≤ q by omega)
          omega
        have Wb := so_Wb hA7 hq hX
        rw [hwt, hwb]
        refine wk_floor hq (by omega) (by omega) (fun mo f1 f2 => ?_)
        have m1 : -420 ≤ mo := by
          have : -420 * q < (mo + 1) * q := by omega
          have := Int.lt_of_mul_lt_mul_right this (by omega)
          omega
        have m2 : mo ≤ 420 := Int.le_of_mul_le_mul_right (show mo * q ≤ 420 * q by omega) hq
        have go : wX_bestWhole_121 post (wX_bestWhole_14 post (f + 1)) x (nI i) (am_L mo) Fpr Fwo rq tu un co fw wc (am_L (so_W A7 X 0)) (am_L q) Fln Fem Fhh Fht Fhb Fhl Flt Flb (nI c) Fl3 Fg3 A1 A2 A3 A4 s5 s6 A7 b8 b9 b10 b11 b12 b13 A14 A15 A16 A17 b18 b19 := by
          unfold wX_bestWhole_121
          refine wk_branch (b := c) (X := X) (q := q) rfl (by omega) bx hq hqb (fun j hj => ⟨h13 j hj, hO.1.2.1 j hj⟩) rfl (fun hz => nm_r (nI_1 i) ?_) (fun t w cc d c5 c6 c18 c19 ht w1 w2 g1 g2 g3 g4 g5 g6 g7 => nm_r (nI_1 i) ?_)
          · rw [am_LI]
            refine ih (i + 1) _ _ _ _ _ _ _ _ _ _ _ _ _ _ _ c _ _ _ _ (bb_pop hI (Or.inr ⟨mo, rfl, by omega, bb_whole hO.1 hz (fun j hj => ?_)⟩)) (by omega)
            dsimp only
            rw [e5 j hj, e6 j hj]
            exact k3 j hj
          · refine ih (i + 1) x _ _ _ _ _ _ _ _ _ _ _ _ _ _ (c + 2) _ _ _ _ (bb_split (c := cc) (d := d) hI ht ?_ ?_ (fun j hj g => ?_) g2 (fun j hj g => ?_) g4 g5 (fun j hj => ?_) (fun j hj => ?_)) (by omega)
            · rw [← e5 t ht]
              exact w1
            · rw [← e6 t ht]
              exact w2
            · rw [← e6 j hj]
              exact g1 j hj g
            · rw [← e5 j hj]
              exact g3 j hj g
            · rw [← e5 j hj]
              exact g6 j hj
            · rw [← e6 j hj]
              exact g7 j hj
        refine br_c (fun _ => go) (fun xn => br_c (fun _ => nm_r (nI_1 i) ?_) (fun _ => go))
        refine ih (i + 1) x _ _ _ _ _ _ _ _ _ _ _ _ _ _ c _ _ _ _ (bb_pop hI (Or.inl ⟨rfl, Or.inl ?_⟩)) (by omega)
        rcases hI.2.2 with ⟨e, _⟩ | g
        · exact absurd e xn
        · exact g
      · intro n j s hj hs hk
        obtain ⟨s5, s6⟩ := s
        try dsimp only at hs
        have q := k1 j hj
        unfold bb_r at q
        have cj : (nI j).toNatClampNeg = j := nI_clamp (by omega)
        refine pk_le 3 j (fun z => absurd z (by omega)) (fun _ => ⟨rw_in (by omega) (by omega), pk_in j 3 hj, nm_r (e' := upd s5 j (b18 (3 * c + j))) (by rw [rw_cl (by omega) hj, cj, am_nb (by omega) (by omega)]) ⟨rw_in (by omega) (by omega), pk_in j 3 hj, nm_r (e' := upd s6 j (b19 (3 * c + j))) (by rw [rw_cl (by omega) hj, cj, am_nb (by omega) (by omega)]) (nm_r (nI_1 j) (hk (upd s5 j (b18 (3 * c + j)), upd s6 j (b19 (3 * c + j))) (fun j' hj' => ?_)))⟩⟩)
        try dsimp only
        by_cases g : j' = j
        · rw [g, pk_us, pk_us]
          exact ⟨rfl, rfl⟩
        · rw [pk_un g, pk_un g]
          exact hs j' (by omega)
theorem bw_best {post : Int32 → St1 → Prop} {Fpr Fwo Frw Ftu : Int32} {Fun : Int64} {Fco Ffw Fwc : Int32} {Fwt Fwb : Int64} {Fln Fem Fhh : Int32} {Fht Fhb : Int64} {Fhl : Int32} {Flt Flb : Int64} {Fbr Fl3 Fg3 : Int32} {A1 A2 A3 A4 A5 A6 A7 A8 A9 : Nat → Int32} {A10 : Nat → Int64} {A11 A12 : Nat → Int32} {A13 A14 A15 A16 A17 : Nat → Int64} {A18 A19 : Nat → Int32} (hA1 : ∀ j, j < 15 → (A1 j).toInt.natAbs ≤ 7) (hA3 : ∀ j, j < 5 → (A3 j).toInt.natAbs ≤ 99) (hA7 : ∀ j, j < 3 → (A7 j).toInt.natAbs ≤ 7) (hbx : rw_box A5 A6)
    (H : ∀ (x : Int32) (rq tu : Int32) (un : Int64) (co fw wc : Int32) (wt wb : Int64) (b8 b9 : Nat → Int32) (b10 : Nat → Int64) (b11 b12 : Nat → Int32) (b13 : Nat → Int64) (br : Int32) (b5 b6 b18 b19 : Nat → Int32), ((x = am_I (-30000000) ∧ ∀ p, ¬ so_F Fpr Fwo A1 A2 A3 A5 A6 p 1) ∨ (∃ z, x = am_I z ∧ z.natAbs ≤ 420 ∧ ∃ p, so_F Fpr Fwo A1 A2 A3 A5 A6 p 1)) → post x (Fpr, Fwo, rq, tu, un, co, fw, wc, wt, wb, Fln, Fem, Fhh, Fht, Fhb, Fhl, Flt, Flb, br, Fl3, Fg3, A1, A2, A3, A4, b5, b6, A7, b8, b9, b10, b11, b12, b13, A14, A15, A16, A17, b18, b19)) : wpX_bestWhole post (Fpr, Fwo, Frw, Ftu, Fun, Fco, Ffw, Fwc, Fwt, Fwb, Fln, Fem, Fhh, Fht, Fhb, Fhl, Flt, Flb, Fbr, Fl3, Fg3, A1, A2, A3, A4, A5, A6, A7, A8, A9, A10, A11, A12, A13, A14, A15, A16, A17, A18, A19) := by
  unfold wpX_bestWhole
  refine wk_push (b := 0) rfl (by omega) hbx (fun c18 c19 h1 h2 => ⟨20001, ?_⟩)
  have e5 : ∀ j, j < 3 → bb_r c18 0 j = A5 j := fun j hj => (h2 j hj).1
  have e6 : ∀ j, j < 3 → bb_r c19 0 j = A6 j := fun j hj => (h2 j hj).2
  have bc := bb_boxc e5 e6
  refine bw_run hA1 hA3 hA7 H 20000 0 (-30000000) _ _ _ _ _ _ _ _ _ _ _ _ _ _ 1 _ _ _ _ ⟨fun k hk => ?_, ?_, Or.inl ⟨rfl, fun p hp => ⟨0, by omega, (bc.2.2.2 p).mpr (fun j hj => ?_)⟩⟩⟩ (by omega)
  · rw [show k = 0 by omega]
    refine ⟨bc.1.mpr hbx, ?_, fun j hj => ?_⟩
    · rw [bc.2.1]
      have q0 := hbx 0 (by decide)
      have q1 := hbx 1 (by decide)
      have q2 := hbx 2 (by decide)
      unfold bb_w
      omega
    · rw [e5 j hj, e6 j hj]
      exact ⟨Int.le_refl _, Int.le_refl _⟩
  · show ((0 : Nat) : Int) + (0 + (2 * bb_v (bb_r c18 0) (bb_r c19 0) - 1)) ≤ 18521
    rw [bc.2.2.1]
    have q0 := hbx 0 (by decide)
    have q1 := hbx 1 (by decide)
    have q2 := hbx 2 (by decide)
    unfold bb_v
    have m1 := am_abs (show ((A6 0).toInt - (A5 0).toInt + 1).natAbs ≤ 21 by omega) (show ((A6 1).toInt - (A5 1).toInt + 1).natAbs ≤ 21 by omega)
    have m2 := am_abs m1 (show ((A6 2).toInt - (A5 2).toInt + 1).natAbs ≤ 21 by omega)
    omega
  · have := hp.2.1 j hj
    omega
theorem wk_askWhole {post : St1 → Prop} {Fpr Fwo Frw Ftu : Int32} {Fun : Int64} {Fco Ffw Fwc : Int32} {Fwt Fwb : Int64} {Fln Fem Fhh : Int32} {Fht Fhb : Int64} {Fhl : Int32} {Flt Flb : Int64} {Fbr Fl3 Fg3 : Int32} {A1 A2 A3 A4 A5 A6 A7 A8 A9 : Nat → Int32} {A10 : Nat → Int64} {A11 A12 : Nat → Int32} {A13 A14 A15 A16 A17 : Nat → Int64} {A18 A19 : Nat → Int32} (H : ∀ b5 b6 : Nat → Int32, (∀ i, i < 3 → b5 i = 0 ∧ b6 i = 20) → post (Fpr, (-1), Frw, Ftu, Fun, Fco, Ffw, Fwc, Fwt, Fwb, Fln, Fem, Fhh, Fht, Fhb, Fhl, Flt, Flb, Fbr, Fl3, Fg3, A1, A2, A3, A4, b5, b6, A7, A8, A9, A10, A11, A12, A13, A14, A15, A16, A17, A18, A19)) : wpX_askWhole post (Fpr, Fwo, Frw, Ftu, Fun, Fco, Ffw, Fwc, Fwt, Fwb, Fln, Fem, Fhh, Fht, Fhb, Fhl, Flt, Flb, Fbr, Fl3, Fg3, A1, A2, A3, A4, A5, A6, A7, A8, A9, A10, A11, A12, A13, A14, A15, A16, A17, A18, A19) := by
  refine pk_loop (fun n i (s : (Nat → Int32) × (Nat → Int32)) => wX_askWhole_7 post Fpr (-1) Frw Ftu Fun Fco Ffw Fwc Fwt Fwb Fln Fem Fhh Fht Fhb Fhl Flt Flb Fbr Fl3 Fg3 n (nI i) A1 A2 A3 A4 (s.1) (s.2) A7 A8 A9 A10 A11 A12 A13 A14 A15 A16 A17 A18 A19) (fun i s => ∀ j, j < i → s.1 j = 0 ∧ s.2 j = 20) 3 0 (A5, A6) (by omega) (fun j hj => absurd hj (by omega)) ?_ ?_
  · intro n s h
    exact pk_le 3 3 (fun _ => H s.1 s.2 h) (fun z => absurd z (by omega))
  · intro n i s hi h hk
    refine pk_le 3 i (fun z => absurd z (by omega)) (fun _ => ⟨pk_in i 3 hi, nm_r (by rw [nI_clamp (show i < 2 ^ 31 by omega)]) ⟨pk_in i 3 hi, nm_r (by rw [nI_clamp (show i < 2 ^ 31 by omega)]) (nm_r (nI_1 i) (hk (upd s.1 i 0, upd s.2 i 20) (fun j hj => ?_)))⟩⟩)
    try dsimp only
    by_cases g : j = i
    · rw [g, pk_us, pk_us]
      exact ⟨rfl, rfl⟩
    · rw [pk_un g, pk_un g]
      exact h j (by omega)
theorem wk_askGoal {post : St1 → Prop} {Fpr Fwo Frw Ftu : Int32} {Fun : Int64} {Fco Ffw Fwc : Int32} {Fwt Fwb : Int64} {Fln Fem Fhh : Int32} {Fht Fhb : Int64} {Fhl : Int32} {Flt Flb : Int64} {Fbr Fl3 Fg3 : Int32} {A1 A2 A3 A4 A5 A6 A7 A8 A9 : Nat → Int32} {A10 : Nat → Int64} {A11 A12 : Nat → Int32} {A13 A14 A15 A16 A17 : Nat → Int64} {A18 A19 : Nat → Int32} (hA4 : ∀ j, j < 3 → (A4 j).toInt.natAbs ≤ 7) (H : ∀ b7 : Nat → Int32, (∀ i, i < 3 → b7 i = A4 i) → post (Fpr, Fwo, Frw, Ftu, Fun, Fco, Ffw, Fwc, Fwt, Fwb, Fln, Fem, Fhh, Fht, Fhb, Fhl, Flt, Flb, Fbr, Fl3, Fg3, A1, A2, A3, A4, A5, A6, b7, A8, A9, A10, A11, A12, A13, A14, A15, A16, A17, A18, A19)) : wpX_askGoal post (Fpr, Fwo, Frw, Ftu, Fun, Fco, Ffw, Fwc, Fwt, Fwb, Fln, Fem, Fhh, Fht, Fhb, Fhl, Flt, Flb, Fbr, Fl3, Fg3, A1, A2, A3, A4, A5, A6, A7, A8, A9, A10, A11, A12, A13, A14, A15, A16, A17, A18, A19) := by
  refine pk_loop (fun n i (s : Nat → Int32) => wX_askGoal_2 post Fpr Fwo Frw Ftu Fun Fco Ffw Fwc Fwt Fwb Fln Fem Fhh Fht Fhb Fhl Flt Flb Fbr Fl3 Fg3 n (nI i) A1 A2 A3 A4 A5 A6 s A8 A9 A10 A11 A12 A13 A14 A15 A16 A17 A18 A19) (fun i s => ∀ j, j < i → s j = A4 j) 3 0 A7 (by omega) (fun j hj => absurd hj (by omega)) ?_ ?_
  · intro n s h
    exact pk_le 3 3 (fun _ => H s h) (fun z => absurd z (by omega))
  · intro n i s hi h hk
    have := hA4 i hi
    refine pk_le 3 i (fun z => absurd z (by omega)) (fun _ => ⟨pk_in i 3 hi, pk_in i 3 hi, nm_r (e' := upd s i (A4 i)) (by rw [nI_clamp (show i < 2 ^ 31 by omega), am_nb (by omega) (by omega)]) (nm_r (nI_1 i) (hk (upd s i (A4 i)) (fun j hj => ?_)))⟩)
    by_cases g : j = i
    · rw [g, pk_us]
    · rw [pk_un g]
      exact h j (by omega)
/-- the amounts that all conditions allow -/
def so_A (Fpr : Int32) (A1 A2 A3 : Nat → Int32) (X : Nat → Int) (q : Int) : Prop := 0 < q ∧ (∀ i, i < 3 → 0 ≤ X i ∧ X i ≤ 20 * q) ∧ rw_cs Fpr (-1) A1 A2 A3 5 X q
theorem so_AF {Fpr : Int32} {A1 A2 A3 b5 b6 : Nat → Int32} (h : ∀ i, i < 3 → b5 i = 0 ∧ b6 i = 20) (X : Nat → Int) (q : Int) : so_F Fpr (-1) A1 A2 A3 b5 b6 X q ↔ so_A Fpr A1 A2 A3 X q := by
  have e : ∀ i, i < 3 → ((b5 i).toInt * q ≤ X i ∧ X i ≤ (b6 i).toInt * q ↔ 0 ≤ X i ∧ X i ≤ 20 * q) := by
    intro i hi
    rw [(h i hi).1, (h i hi).2, show (0 : Int32).toInt = 0 from rfl, show (20 : Int32).toInt = 20 from rfl]
    omega
  constructor
  · intro ⟨a, b, c⟩
    exact ⟨a, fun i hi => (e i hi).mp (b i hi), c⟩
  · intro ⟨a, b, c⟩
    exact ⟨a, fun i hi => (e i hi).mpr (b i hi), c⟩
theorem so_bx {b5 b6 : Nat → Int32} (h : ∀ i, i < 3 → b5 i = 0 ∧ b6 i = 20) : rw_box b5 b6 := by
  intro i hi
  rw [(h i hi).1, (h i hi).2]
  decide
theorem so_a7 {A4 b7 : Nat → Int32} (hA4 : ∀ j, j < 3 → (A4 j).toInt.natAbs ≤ 7) (h : ∀ i, i < 3 → b7 i = A4 i) : ∀ j, j < 3 → (b7 j).toInt.natAbs ≤ 7 := by
  intro j hj
  rw [h j hj]
  exact hA4 j hj
theorem bw_whole {post : Int32 → St1 → Prop} {Fpr Fwo Frw Ftu : Int32} {Fun : Int64} {Fco Ffw Fwc : Int32} {Fwt Fwb : Int64} {Fln Fem Fhh : Int32} {Fht Fhb : Int64} {Fhl : Int32} {Flt Flb : Int64} {Fbr Fl3 Fg3 : Int32} {A1 A2 A3 A4 A5 A6 A7 A8 A9 : Nat → Int32} {A10 : Nat → Int64} {A11 A12 : Nat → Int32} {A13 A14 A15 A16 A17 : Nat → Int64} {A18 A19 : Nat → Int32} (hA1 : ∀ j, j < 15 → (A1 j).toInt.natAbs ≤ 7) (hA3 : ∀ j, j < 5 → (A3 j).toInt.natAbs ≤ 99) (hA4 : ∀ j, j < 3 → (A4 j).toInt.natAbs ≤ 7)
    (H : ∀ (x : Int32) (wo rq tu : Int32) (un : Int64) (co fw wc : Int32) (wt wb : Int64) (ln em hh : Int32) (ht hb : Int64) (hl : Int32) (lt lb : Int64) (br l3 g3 : Int32) (b5 b6 b7 b8 b9 : Nat → Int32) (b10 : Nat → Int64) (b11 b12 : Nat → Int32) (b13 b14 b15 b16 b17 : Nat → Int64) (b18 b19 : Nat → Int32), ((x = -30000000 ∧ ∀ p, ¬ so_A Fpr A1 A2 A3 p 1) ∨ (¬ x = -30000000 ∧ ∃ p, so_A Fpr A1 A2 A3 p 1)) → post x (Fpr, wo, rq, tu, un, co, fw, wc, wt, wb, ln, em, hh, ht, hb, hl, lt, lb, br, l3, g3, A1, A2, A3, A4, b5, b6, b7, b8, b9, b10, b11, b12, b13, b14, b15, b16, b17, b18, b19)) : wpX_whole post (Fpr, Fwo, Frw, Ftu, Fun, Fco, Ffw, Fwc, Fwt, Fwb, Fln, Fem, Fhh, Fht, Fhb, Fhl, Flt, Flb, Fbr, Fl3, Fg3, A1, A2, A3, A4, A5, A6, A7, A8, A9, A10, A11, A12, A13, A14, A15, A16, A17, A18, A19) := by
  unfold wpX_whole
  refine wk_askWhole (fun b5 b6 hbb => wk_askGoal hA4 (fun b7 h7 => bw_best hA1 hA3 (so_a7 hA4 h7) (so_bx hbb) (fun x rq tu un co fw wc wt wb b8 b9 b10 b11 b12 b13 br c5 c6 c18 c19 hx => H x _ _ _ _ _ _ _ _ _ _ _ _ _ _ _ _ _ _ _ _ _ _ _ _ _ _ _ _ _ _ _ _ _ _ _ ?_)))
  rcases hx with ⟨e, g⟩ | ⟨z, e, hz, p, g⟩
  · exact Or.inl ⟨e, fun p hp => g p ((so_AF hbb p 1).mpr hp)⟩
  · refine Or.inr ⟨fun q => ?_, p, (so_AF hbb p 1).mp g⟩
    rw [e, show (-30000000 : Int32) = am_I (-30000000) from rfl, am_Ieq ⟨by omega, by omega⟩ ⟨by omega, by omega⟩] at q
    omega
end
section
theorem bp_with {post : Int32 → St1 → Prop} {Fpr Fwo Frw Ftu : Int32} {Fun : Int64} {Fco Ffw Fwc : Int32} {Fwt Fwb : Int64} {Fln Fem Fhh : Int32} {Fht Fhb : Int64} {Fhl : Int32} {Flt Flb : Int64} {Fbr Fl3 Fg3 : Int32} {A1 A2 A3 A4 A5 A6 A7 A8 A9 : Nat → Int32} {A10 : Nat → Int64} {A11 A12 : Nat → Int32} {A13 A14 A15 A16 A17 : Nat → Int64} {A18 A19 : Nat → Int32} {c i v : Nat} (hi : i < 3) (hv : v ≤ 20) (hc : c < 100000) (hA1 : ∀ j, j < 15 → (A1 j).toInt.natAbs ≤ 7) (hA3 : ∀ j, j < 5 → (A3 j).toInt.natAbs ≤ 99) (hA4 : ∀ j, j < 3 → (A4 j).toInt.natAbs ≤ 7)
    (H : ∀ (x : Int32) (wo rq tu : Int32) (un : Int64) (co fw wc : Int32) (wt wb : Int64) (ln em hh : Int32) (ht hb : Int64) (hl : Int32) (lt lb : Int64) (br l3 g3 : Int32) (b5 b6 b7 b8 b9 : Nat → Int32) (b10 : Nat → Int64) (b11 b12 : Nat → Int32) (b13 b14 b15 b16 b17 : Nat → Int64) (b18 b19 : Nat → Int32), post x (Fpr, wo, rq, tu, un, co, fw, wc, wt, wb, ln, em, hh, ht, hb, hl, lt, lb, br, l3, g3, A1, A2, A3, A4, b5, b6, b7, b8, b9, b10, b11, b12, b13, b14, b15, b16, b17, b18, b19)) : wpX_bestWith post (Fpr, Fwo, Frw, Ftu, Fun, Fco, Ffw, Fwc, Fwt, Fwb, Fln, Fem, Fhh, Fht, Fhb, Fhl, Flt, Flb, Fbr, Fl3, Fg3, A1, A2, A3, A4, A5, A6, A7, A8, A9, A10, A11, A12, A13, A14, A15, A16, A17, A18, A19) (nI i) (nI c) (nI i) (nI v) := by
  unfold wpX_bestWith
  refine wk_askWhole (fun b5 b6 hbb => wk_askGoal hA4 (fun b7 h7 => ?_))
  have nar : ∀ n : Nat, n ≤ 20 → (nI n).toInt8.toInt32 = nI n := by
    intro n hn
    rw [am_nI, am_I8 (by omega) (by omega)]
  have tn : ∀ n : Nat, n ≤ 20 → (nI n).toInt = n := fun n hn => nI_toInt (by omega)
  refine pk_loop (fun n j (s : Nat × (Nat → Int32) × (Nat → Int32)) => wX_bestWith_14 post (nI i) (nI i) (nI v) Fpr (-1) Frw Ftu Fun Fco Ffw Fwc Fwt Fwb Fln Fem Fhh Fht Fhb Fhl Flt Flb Fbr Fl3 Fg3 n (nI s.1) (nI j) A1 A2 A3 A4 (s.2.1) (s.2.2) b7 A8 A9 A10 A11 A12 A13 A14 A15 A16 A17 A18 A19) (fun j s => s.1 < 100000 ∧ rw_box s.2.1 s.2.2) i 0 (c, b5, b6) (by omega) ⟨hc, so_bx hbb⟩ ?_ ?_
  · intro n s ⟨h1, h2⟩
    have ci : (nI i).toNatClampNeg = i := nI_clamp (by omega)
    refine pk_le i i (fun _ => ⟨pk_in i 3 hi, nm_r (e' := upd s.2.1 i (nI v)) (by rw [ci, nar v hv]) ⟨pk_in i 3 hi, nm_r (e' := upd s.2.2 i (nI v)) (by rw [ci, nar v hv]) ?_⟩⟩) (fun z => absurd z (by omega))
    refine bw_best hA1 hA3 (so_a7 hA4 h7) (fun j hj => ?_) (fun x rq tu un co fw wc wt wb b8 b9 b10 b11 b12 b13 br c5 c6 c18 c19 hx => H x _ _ _ _ _ _ _ _ _ _ _ _ _ _ _ _ _ _ _ _ _ _ _ _ _ _ _ _ _ _ _ _ _ _ _)
    by_cases g : j = i
    · rw [g, pk_us, pk_us, tn v hv]
      omega
    · rw [pk_un g, pk_un g]
      exact h2 j hj
  · intro n j s hj ⟨h1, h2⟩ hk
    have cj : (nI j).toNatClampNeg = j := nI_clamp (by omega)
    have rm : nI s.1 - nI s.1 / 21 * 21 = nI (s.1 % 21) := pk_rem (by omega) (by decide) (by decide)
    have lt : s.1 % 21 < 21 := Nat.mod_lt _ (by decide)
    refine pk_le i j (fun z => absurd z (by omega)) (fun _ => ⟨by decide, ⟨pk_in j 3 (by omega), nm_r (e' := upd s.2.1 j (nI (s.1 % 21))) (by rw [cj, rm, nar _ (by omega)]) ⟨pk_in j 3 (by omega), ⟨pk_in j 3 (by omega), nm_r (e' := upd s.2.2 j (nI (s.1 % 21))) ?_ ⟨by decide, nm_r (e' := nI (s.1 / 21)) (pk_div (by omega) (by decide) (by decide)) (nm_r (nI_1 j) (hk (s.1 / 21, upd s.2.1 j (nI (s.1 % 21)), upd s.2.2 j (nI (s.1 % 21))) ⟨?_, fun t ht => ?_⟩))⟩⟩⟩⟩⟩)
    · rw [cj, pk_us, am_nb (by rw [tn _ (by omega)]; omega) (by rw [tn _ (by omega)]; omega)]
    · show s.1 / 21 < 100000
      have := Nat.div_le_self s.1 21
      omega
    · try dsimp only
      by_cases g : t = j
      · rw [g, pk_us, pk_us, tn _ (by omega)]
        omega
      · rw [pk_un g, pk_un g]
        exact h2 t ht
theorem bp_point {post : Int32 → St1 → Prop} {Fpr Fwo Frw Ftu : Int32} {Fun : Int64} {Fco Ffw Fwc : Int32} {Fwt Fwb : Int64} {Fln Fem Fhh : Int32} {Fht Fhb : Int64} {Fhl : Int32} {Flt Flb : Int64} {Fbr Fl3 Fg3 : Int32} {A1 A2 A3 A4 A5 A6 A7 A8 A9 : Nat → Int32} {A10 : Nat → Int64} {A11 A12 : Nat → Int32} {A13 A14 A15 A16 A17 : Nat → Int64} {A18 A19 : Nat → Int32} (hA1 : ∀ j, j < 15 → (A1 j).toInt.natAbs ≤ 7) (hA3 : ∀ j, j < 5 → (A3 j).toInt.natAbs ≤ 99) (hA4 : ∀ j, j < 3 → (A4 j).toInt.natAbs ≤ 7)
    (H : ∀ (x : Int32) (wo rq tu : Int32) (un : Int64) (co fw wc : Int32) (wt wb : Int64) (ln em hh : Int32) (ht hb : Int64) (hl : Int32) (lt lb : Int64) (br l3 g3 : Int32) (b5 b6 b7 b8 b9 : Nat → Int32) (b10 : Nat → Int64) (b11 b12 : Nat → Int32) (b13 b14 b15 b16 b17 : Nat → Int64) (b18 b19 : Nat → Int32), ((x = -30000000 ∧ ∀ p, ¬ so_A Fpr A1 A2 A3 p 1) ∨ ((∃ c : Nat, c < 9261 ∧ x = nI c) ∧ ∃ p, so_A Fpr A1 A2 A3 p 1)) → post x (Fpr, wo, rq, tu, un, co, fw, wc, wt, wb, ln, em, hh, ht, hb, hl, lt, lb, br, l3, g3, A1, A2, A3, A4, b5, b6, b7, b8, b9, b10, b11, b12, b13, b14, b15, b16, b17, b18, b19)) : wpX_wholePoint post (Fpr, Fwo, Frw, Ftu, Fun, Fco, Ffw, Fwc, Fwt, Fwb, Fln, Fem, Fhh, Fht, Fhb, Fhl, Flt, Flb, Fbr, Fl3, Fg3, A1, A2, A3, A4, A5, A6, A7, A8, A9, A10, A11, A12, A13, A14, A15, A16, A17, A18, A19) := by
  unfold wpX_wholePoint
  refine bw_whole hA1 hA3 hA4 (fun x wo rq tu un co fw wc wt wb ln em hh ht hb hl lt lb br l3 g3 b5 b6 b7 b8 b9 b10 b11 b12 b13 b14 b15 b16 b17 b18 b19 hx => ?_)
  rcases hx with ⟨e, g⟩ | ⟨e, g⟩
  · exact br_t e (H (-30000000) _ _ _ _ _ _ _ _ _ _ _ _ _ _ _ _ _ _ _ _ _ _ _ _ _ _ _ _ _ _ _ _ _ _ _ (Or.inl ⟨rfl, g⟩))
  · refine br_f e ⟨4, ?_⟩
    have inner : ∀ (J : Int32 → Int32 → Int32 → Int32 → Int32 → Int32 → Int32 → Int32 → Int64 → Int32 → Int32 → Int32 → Int64 → Int64 → Int32 → Int32 → Int32 → Int64 → Int64 → Int32 → Int64 → Int64 → Int32 → Int32 → Int32 → (Nat → Int32) → (Nat → Int32) → (Nat → Int32) → (Nat → Int32) → (Nat → Int32) → (Nat → Int32) → (Nat → Int32) → (Nat → Int32) → (Nat → Int32) → (Nat → Int64) → (Nat → Int32) → (Nat → Int32) → (Nat → Int64) → (Nat → Int64) → (Nat → Int64) → (Nat → Int64) → (Nat → Int64) → (Nat → Int32) → (Nat → Int32) → Prop) (c w i : Nat), i < 3 → c < 100000 → (∀ (v : Nat) (wo rq tu : Int32) (un : Int64) (co fw wc : Int32) (wt wb : Int64) (ln em hh : Int32) (ht hb : Int64) (hl : Int32) (lt lb : Int64) (br l3 g3 : Int32) (b5 b6 b7 b8 b9 : Nat → Int32) (b10 : Nat → Int64) (b11 b12 : Nat → Int32) (b13 b14 b15 b16 b17 : Nat → Int64) (b18 b19 : Nat → Int32), v ≤ 20 → wX_wholePoint_61 post J x (nI c) (nI w) (nI i) (nI i) (nI v) Fpr wo rq tu un co fw wc wt wb ln em hh ht hb hl lt lb br l3 g3 A1 A2 A3 A4 b5 b6 b7 b8 b9 b10 b11 b12 b13 b14 b15 b16 b17 b18 b19) → ∀ (f v : Nat) (wo rq tu : Int32) (un : Int64) (co fw wc : Int32) (wt wb : Int64) (ln em hh : Int32) (ht hb : Int64) (hl : Int32) (lt lb : Int64) (br l3 g3 : Int32) (b5 b6 b7 b8 b9 : Nat → Int32) (b10 : Nat → Int64) (b11 b12 : Nat → Int32) (b13 b14 b15 b16 b17 : Nat → Int64) (b18 b19 : Nat → Int32), v ≤ 20 → 20 ≤ v + f → wX_wholePoint_33 post J x (nI c) (nI w) (nI i) (nI i) (f + 1) (nI v) Fpr wo rq tu un co fw wc wt wb ln em hh ht hb hl lt lb br l3 g3 A1 A2 A3 A4 b5 b6 b7 b8 b9 b10 b11 b12 b13 b14 b15 b16 b17 b18 b19 := by
      intro J c w i hi hc hJ f
      induction f with
      | zero =>
        intro v wo rq tu un co fw wc wt wb ln em hh ht hb hl lt lb br l3 g3 b5 b6 b7 b8 b9 b10 b11 b12 b13 b14 b15 b16 b17 b18 b19 hv hf
        exact pk_le 20 v (fun _ => hJ v wo rq tu un co fw wc wt wb ln em hh ht hb hl lt lb br l3 g3 b5 b6 b7 b8 b9 b10 b11 b12 b13 b14 b15 b16 b17 b18 b19 hv) (fun z => absurd z (by omega))
      | succ f ih =>
        intro v wo rq tu un co fw wc wt wb ln em hh ht hb hl lt lb br l3 g3 b5 b6 b7 b8 b9 b10 b11 b12 b13 b14 b15 b16 b17 b18 b19 hv hf
        refine pk_le 20 v (fun _ => hJ v wo rq tu un co fw wc wt wb ln em hh ht hb hl lt lb br l3 g3 b5 b6 b7 b8 b9 b10 b11 b12 b13 b14 b15 b16 b17 b18 b19 hv) (fun z => bp_with hi hv hc hA1 hA3 hA4 (fun y wo rq tu un co fw wc wt wb ln em hh ht hb hl lt lb br l3 g3 b5 b6 b7 b8 b9 b10 b11 b12 b13 b14 b15 b16 b17 b18 b19 => br_c (fun _ => hJ v wo rq tu un co fw wc wt wb ln em hh ht hb hl lt lb br l3 g3 b5 b6 b7 b8 b9 b10 b11 b12 b13 b14 b15 b16 b17 b18 b19 hv) (fun _ => nm_r (nI_1 v) (ih (v + 1) wo rq tu un co fw wc wt wb ln em hh ht hb hl lt lb br l3 g3 b5 b6 b7 b8 b9 b10 b11 b12 b13 b14 b15 b16 b17 b18 b19 (by omega) (by omega)))))
    have outer : ∀ (f i c w : Nat) (wo rq tu : Int32) (un : Int64) (co fw wc : Int32) (wt wb : Int64) (ln em hh : Int32) (ht hb : Int64) (hl : Int32) (lt lb : Int64) (br l3 g3 : Int32) (b5 b6 b7 b8 b9 : Nat → Int32) (b10 : Nat → Int64) (b11 b12 : Nat → Int32) (b13 b14 b15 b16 b17 : Nat → Int64) (b18 b19 : Nat → Int32), i + f = 3 → c < w → w = 21 ^ i → wX_wholePoint_24 post x (f + 1) (nI c) (nI w) (nI i) (nI i) Fpr wo rq tu un co fw wc wt wb ln em hh ht hb hl lt lb br l3 g3 A1 A2 A3 A4 b5 b6 b7 b8 b9 b10 b11 b12 b13 b14 b15 b16 b17 b18 b19 := by
      intro f
      induction f with
      | zero =>
        intro i c w wo rq tu un co fw wc wt wb ln em hh ht hb hl lt lb br l3 g3 b5 b6 b7 b8 b9 b10 b11 b12 b13 b14 b15 b16 b17 b18 b19 hf hc hw
        have hi : i = 3 := by omega
        rw [hi] at hw
        rw [hi]
        exact pk_le 3 3 (fun _ => H (nI c) wo rq tu un co fw wc wt wb ln em hh ht hb hl lt lb br l3 g3 b5 b6 b7 b8 b9 b10 b11 b12 b13 b14 b15 b16 b17 b18 b19 (Or.inr ⟨⟨c, by omega, rfl⟩, g⟩)) (fun z => absurd z (by omega))
      | succ f ih =>
        intro i c w wo rq tu un co fw wc wt wb ln em hh ht hb hl lt lb br l3 g3 b5 b6 b7 b8 b9 b10 b11 b12 b13 b14 b15 b16 b17 b18 b19 hf hc hw
        have hi' : i = 0 ∨ i = 1 ∨ i = 2 := by omega
        have w2 : w * 21 = 21 ^ (i + 1) := by rw [hw, Nat.pow_succ]
        have wle : w ≤ 441 := by
          rcases hi' with rfl | rfl | rfl <;> omega
        refine pk_le 3 i (fun z => absurd z (by omega)) (fun _ => ⟨21, inner _ c w i (by omega) (by omega) (fun v wo rq tu un co fw wc wt wb ln em hh ht hb hl lt lb br l3 g3 b5 b6 b7 b8 b9 b10 b11 b12 b13 b14 b15 b16 b17 b18 b19 hv => ?_) 20 0 _ _ _ _ _ _ _ _ _ _ _ _ _ _ _ _ _ _ _ _ _ _ _ _ _ _ _ _ _ _ _ _ _ _ _ (by omega) (by omega)⟩)
        have m : w * v ≤ w * 20 := Nat.mul_le_mul_left w hv
        exact nm_r (e' := nI (c + w * v)) (by rw [pk_mul, nI_add]) (nm_r (e' := nI (w * 21)) (by rw [show (21 : Int32) = nI 21 from rfl, pk_mul]) (nm_r (nI_1 i) (nm_r (nI_1 i) (ih (i + 1) (c + w * v) (w * 21) wo rq tu un co fw wc wt wb ln em hh ht hb hl lt lb br l3 g3 b5 b6 b7 b8 b9 b10 b11 b12 b13 b14 b15 b16 b17 b18 b19 (by omega) (by omega) w2))))
    exact outer 3 0 0 1 _ _ _ _ _ _ _ _ _ _ _ _ _ _ _ _ _ _ _ _ _ _ _ _ _ _ _ _ _ _ _ _ _ _ _ (by omega) (by omega) rfl
/-- the number of thirds that a set of them has -/
def ct_t (P : Int → Prop) (t : Int) : Prop := ∃ l g : Int, 0 ≤ l ∧ g ≤ 20 ∧ (∀ z, 0 ≤ z → z ≤ 20 → (P z ↔ l ≤ z ∧ z ≤ g)) ∧ ((l ≤ g ∧ t = g - l + 1) ∨ (g < l ∧ t = 0))
theorem ct_mono {P P' : Int → Prop} {t t' : Int} (h : ct_t P t) (h' : ct_t P' t') (hp : ∀ z, 0 ≤ z → z ≤ 20 → P' z → P z) : t' ≤ t := by
  obtain ⟨l, g, h1, h2, h3, h4⟩ := h
  obtain ⟨l', g', h1', h2', h3', h4'⟩ := h'
  rcases h4' with ⟨a, b⟩ | ⟨a, b⟩
  · have q1 := (h3 l' h1' (by omega)).mp (hp l' h1' (by omega) ((h3' l' h1' (by omega)).mpr ⟨by omega, a⟩))
    have q2 := (h3 g' (by omega) h2').mp (hp g' (by omega) h2' ((h3' g' (by omega) h2').mpr ⟨a, by omega⟩))
    rcases h4 with ⟨c, d⟩ | ⟨c, d⟩ <;> omega
  · rcases h4 with ⟨c, d⟩ | ⟨c, d⟩ <;> omega
theorem ct_b {P : Int → Prop} {t : Int} (h : ct_t P t) : 0 ≤ t ∧ t ≤ 21 ∧ (0 < t ↔ ∃ z, 0 ≤ z ∧ z ≤ 20 ∧ P z) := by
  obtain ⟨l, g, h1, h2, h3, h4⟩ := h
  refine ⟨by omega, by omega, ?_⟩
  constructor
  · intro ht
    have lg : l ≤ g := by omega
    exact ⟨l, h1, by omega, (h3 l h1 (by omega)).mpr ⟨by omega, lg⟩⟩
  · intro ⟨z, z1, z2, hz⟩
    have := (h3 z z1 z2).mp hz
    omega
/-- the inequality number * z ≤ rest narrows -/
theorem ct_narrow {post : St1 → Prop} {Fpr Fwo Frw Ftu : Int32} {Fun : Int64} {Fco Ffw Fwc : Int32} {Fwt Fwb : Int64} {Fln Fem Fhh : Int32} {Fht Fhb : Int64} {Fhl : Int32} {Flt Flb : Int64} {Fbr Fl3 Fg3 : Int32} {A1 A2 A3 A4 A5 A6 A7 A8 A9 : Nat → Int32} {A10 : Nat → Int64} {A11 A12 : Nat → Int32} {A13 A14 A15 A16 A17 : Nat → Int64} {A18 A19 : Nat → Int32} {l g N R : Int} {P : Int → Prop} (hl : Fl3 = am_I l) (hg : Fg3 = am_I g) (l0 : 0 ≤ l) (l1 : l ≤ 100000) (g0 : -100000 ≤ g) (g1 : g ≤ 20) (hP : ∀ z, 0 ≤ z → z ≤ 20 → (P z ↔ l ≤ z ∧ z ≤ g)) (hN : N.natAbs ≤ 7) (hR : R.natAbs ≤ 1000)
    (H : ∀ l' g' : Int, 0 ≤ l' → l' ≤ 100000 → -100000 ≤ g' → g' ≤ 20 → (∀ z, 0 ≤ z → z ≤ 20 → (P z ∧ N * z ≤ R ↔ l' ≤ z ∧ z ≤ g')) → post (Fpr, Fwo, Frw, Ftu, Fun, Fco, Ffw, Fwc, Fwt, Fwb, Fln, Fem, Fhh, Fht, Fhb, Fhl, Flt, Flb, Fbr, (am_I l'), (am_I g'), A1, A2, A3, A4, A5, A6, A7, A8, A9, A10, A11, A12, A13, A14, A15, A16, A17, A18, A19)) : wpX_narrow post (Fpr, Fwo, Frw, Ftu, Fun, Fco, Ffw, Fwc, Fwt, Fwb, Fln, Fem, Fhh, Fht, Fhb, Fhl, Flt, Flb, Fbr, Fl3, Fg3, A1, A2, A3, A4, A5, A6, A7, A8, A9, A10, A11, A12, A13, A14, A15, A16, A17, A18, A19) (am_I N) (am_I R) := by
  subst hl hg
  have RN : am_R3 N := ⟨by omega, by omega⟩
  have RR : am_R3 R := ⟨by omega, by omega⟩
  have Rg : am_R3 g := ⟨by omega, by omega⟩
  have Rl : am_R3 l := ⟨by omega, by omega⟩
  have neg : R < 0 → N = 0 → post (Fpr, Fwo, Frw, Ftu, Fun, Fco, Ffw, Fwc, Fwt, Fwb, Fln, Fem, Fhh, Fht, Fhb, Fhl, Flt, Flb, Fbr, (am_I l), (-1), A1, A2, A3, A4, A5, A6, A7, A8, A9, A10, A11, A12, A13, A14, A15, A16, A17, A18, A19) := by
    intro r0 n0
    have := H l (-1) l0 l1 (by omega) (by omega) (fun z z1 z2 => by
      rw [n0]
      constructor
      · intro h
        exact absurd h.2 (by omega)
      · intro h
        omega)
    rw [am_Im1] at this
    exact this
  refine ek_if (am_Ile (b := 0) RN ⟨by omega, by omega⟩) (fun n1 => ek_if (am_Ile (a := 0) ⟨by omega, by omega⟩ RN) (fun n2 => ek_if (am_Ile (a := 0) ⟨by omega, by omega⟩ RR) (fun r0 => H l g l0 l1 g0 g1 (fun z z1 z2 => ?_)) (fun r0 => neg (by omega) (by omega))) (fun n2 => ?_)) (fun n1 => ?_)
  · rw [← hP z z1 z2, show N = 0 by omega]
    constructor
    · intro h
      exact h.1
    · intro h
      exact ⟨h, by omega⟩
  · rw [am_IL RR, am_Ineg, am_IL ⟨by omega, by omega⟩]
    refine wk_floor (q := -N) (by omega) (by omega) (by omega) (fun f f1 f2 => ?_)
    have fb : f.natAbs ≤ 1001 := by
      have p1 : -1001 < f + 1 := by
        have : -1001 * -N < (f + 1) * -N := by omega
        exact Int.lt_of_mul_lt_mul_right this (by omega)
      have p2 : f < 1001 := by
        have : f * -N < 1001 * -N := by omega
        exact Int.lt_of_mul_lt_mul_right this (by omega)
      omega
    have eq : ∀ z : Int, N * z ≤ R ↔ -f ≤ z := by
      intro z
      constructor
      · intro h
        have : (-z) * -N < (f + 1) * -N := by
          have : (-z) * -N = N * z := by grind
          omega
        have := Int.lt_of_mul_lt_mul_right this (by omega)
        omega
      · intro h
        have : (-z) * -N ≤ f * -N := Int.mul_le_mul_of_nonneg_right (by omega) (by omega)
        have e : (-z) * -N = N * z := by grind
        omega
    refine nm_r (e' := am_I (-f)) (by rw [am_Lneg, am_LI]) (ek_if (am_Ile ⟨by omega, by omega⟩ Rl) (fun y => H l g l0 l1 g0 g1 (fun z z1 z2 => ?_)) (fun y => H (-f) g (by omega) (by omega) g0 g1 (fun z z1 z2 => ?_)))
    · rw [hP z z1 z2, eq z]
      omega
    · rw [hP z z1 z2, eq z]
      omega
  · rw [am_IL RR, am_IL RN]
    refine wk_floor (q := N) (by omega) (by omega) (by omega) (fun f f1 f2 => ?_)
    have fb : f.natAbs ≤ 1001 := by
      have p1 : -1001 < f + 1 := by
        have : -1001 * N < (f + 1) * N := by omega
        exact Int.lt_of_mul_lt_mul_right this (by omega)
      have p2 : f < 1001 := by
        have : f * N < 1001 * N := by omega
        exact Int.lt_of_mul_lt_mul_right this (by omega)
      omega
    have eq : ∀ z : Int, N * z ≤ R ↔ z ≤ f := by
      intro z
      constructor
      · intro h
        have : z * N < (f + 1) * N := by
          have := Int.mul_comm z N
          omega
        have := Int.lt_of_mul_lt_mul_right this (by omega)
        omega
      · intro h
        have : z * N ≤ f * N := Int.mul_le_mul_of_nonneg_right h (by omega)
        have := Int.mul_comm z N
        omega
    rw [am_LI]
    refine ek_if (am_Ile Rg ⟨by omega, by omega⟩) (fun y => H l g l0 l1 g0 g1 (fun z z1 z2 => ?_)) (fun y => H l f l0 l1 (by omega) (by omega) (fun z z1 z2 => ?_))
    · rw [hP z z1 z2, eq z]
      omega
    · rw [hP z z1 z2, eq z]
      omega
end
section
theorem ct_uni {P : Int → Prop} {t t' : Int} (h : ct_t P t) (h' : ct_t P t') : t = t' := by
  have a := ct_mono h h' (fun _ _ _ q => q)
  have b := ct_mono h' h (fun _ _ _ q => q)
  omega

noncomputable def ct_v (P : Int → Prop) : Int := @dite _ (∃ t, ct_t P t) (Classical.propDecidable _) (fun h => Classical.choose h) (fun _ => 0)
theorem ct_vt {P : Int → Prop} {t : Int} (h : ct_t P t) : t = ct_v P ∧ ct_t P (ct_v P) := by
  have e : ∃ t, ct_t P t := ⟨t, h⟩
  have q : ct_v P = Classical.choose e := by
    unfold ct_v
    exact dif_pos e
  have c := Classical.choose_spec e
  rw [← q] at c
  exact ⟨ct_uni h c, c⟩
def ct_p (x y : Nat) (z : Int) : Nat → Int := fun i => if i = 0 then (x : Int) else if i = 1 then (y : Int) else z
def ct_P (Fpr : Int32) (A1 A2 A3 : Nat → Int32) (x y : Nat) : Int → Prop := fun z => rw_cs Fpr (-1) A1 A2 A3 5 (ct_p x y z) 1
theorem ct_ne (k : Nat) (hk : k < 5) : ¬ nI k = (-1 : Int32) := by
  have hk' : k = 0 ∨ k = 1 ∨ k = 2 ∨ k = 3 ∨ k = 4 := by omega
  rcases hk' with rfl | rfl | rfl | rfl | rfl <;> decide
theorem ct_thirds {post : Int32 → St1 → Prop} {Fpr Fwo Frw Ftu : Int32} {Fun : Int64} {Fco Ffw Fwc : Int32} {Fwt Fwb : Int64} {Fln Fem Fhh : Int32} {Fht Fhb : Int64} {Fhl : Int32} {Flt Flb : Int64} {Fbr Fl3 Fg3 : Int32} {A1 A2 A3 A4 A5 A6 A7 A8 A9 : Nat → Int32} {A10 : Nat → Int64} {A11 A12 : Nat → Int32} {A13 A14 A15 A16 A17 : Nat → Int64} {A18 A19 : Nat → Int32} {x y : Nat} (hx : x ≤ 20) (hy : y ≤ 20) (hA1 : ∀ j, j < 15 → (A1 j).toInt.natAbs ≤ 7) (hA3 : ∀ j, j < 5 → (A3 j).toInt.natAbs ≤ 99)
    (H : ∀ (t : Int) (l3 g3 : Int32), ct_t (ct_P Fpr A1 A2 A3 x y) t → post (am_I t) (Fpr, Fwo, Frw, Ftu, Fun, Fco, Ffw, Fwc, Fwt, Fwb, Fln, Fem, Fhh, Fht, Fhb, Fhl, Flt, Flb, Fbr, l3, g3, A1, A2, A3, A4, A5, A6, A7, A8, A9, A10, A11, A12, A13, A14, A15, A16, A17, A18, A19)) : wpX_thirds post (Fpr, Fwo, Frw, Ftu, Fun, Fco, Ffw, Fwc, Fwt, Fwb, Fln, Fem, Fhh, Fht, Fhb, Fhl, Flt, Flb, Fbr, Fl3, Fg3, A1, A2, A3, A4, A5, A6, A7, A8, A9, A10, A11, A12, A13, A14, A15, A16, A17, A18, A19) (nI x) (nI y) := by
  refine pk_loop (fun n k (s : Int32 × Int32) => wX_thirds_13 post (nI x) (nI y) n (nI k) Fpr Fwo Frw Ftu Fun Fco Ffw Fwc Fwt Fwb Fln Fem Fhh Fht Fhb Fhl Flt Flb Fbr (s.1) (s.2) A1 A2 A3 A4 A5 A6 A7 A8 A9 A10 A11 A12 A13 A14 A15 A16 A17 A18 A19) (fun k s => ∃ l g : Int, s.1 = am_I l ∧ s.2 = am_I g ∧ 0 ≤ l ∧ l ≤ 100000 ∧ -100000 ≤ g ∧ g ≤ 20 ∧ ∀ z, 0 ≤ z → z ≤ 20 → (rw_cs Fpr (-1) A1 A2 A3 k (ct_p x y z) 1 ↔ l ≤ z ∧ z ≤ g)) 5 0 (0, 20) (by omega) ⟨0, 20, rfl, rfl, by omega, by omega, by omega, by omega, fun z z1 z2 => ⟨fun _ => ⟨z1, z2⟩, fun _ k hk => absurd hk (by omega)⟩⟩ ?_ ?_
  · intro n s ⟨l, g, e1, e2, l0, l1, g0, g1, hP⟩
    obtain ⟨s1, s2⟩ := s
    try dsimp only at e1 e2
    subst e1 e2
    refine pk_le 5 5 (fun _ => ek_if (am_Ilt ⟨by omega, by omega⟩ ⟨by omega, by omega⟩) (fun q => ?_) (fun q => ?_)) (fun z => absurd z (by omega))
    · exact H 0 _ _ ⟨l, g, l0, g1, hP, Or.inr ⟨q, rfl⟩⟩
    · have := H (g - l + 1) (am_I l) (am_I g) ⟨l, g, l0, g1, hP, Or.inl ⟨by omega, rfl⟩⟩
      rw [← am_Iadd, ← am_Isub] at this
      exact this
  · intro n k s hk ⟨l, g, e1, e2, l0, l1, g0, g1, hP⟩ hn
    obtain ⟨s1, s2⟩ := s
    try dsimp only at e1 e2
    subst e1 e2
    have ck : (nI k).toNatClampNeg = k := nI_clamp (by omega)
    refine pk_le 5 k (fun z => absurd z (by omega)) (fun _ => wk_has hk (fun no => br_t rfl (nm_r (nI_1 k) (hn (am_I l, am_I g) ⟨l, g, rfl, rfl, l0, l1, g0, g1, fun z z1 z2 => ?_⟩))) (fun yes => br_f (by decide) ?_))
    · rw [rw_csS, ← hP z z1 z2]
      exact ⟨fun h => h.1, fun h => ⟨h, fun q => absurd q no⟩⟩
    · have i0 : (nI k * 3).toNatClampNeg = 3 * k := by
        rw [show (3 : Int32) = nI 3 from rfl, pk_mul, nI_clamp (by omega), Nat.mul_comm]
      have v0 : vp_in (nI k * 3) 15 := by
        rw [show (3 : Int32) = nI 3 from rfl, pk_mul]
        exact vp_in_nI (by omega) (by omega)
      have i1 : (nI k * 3 + 1).toNatClampNeg = 3 * k + 1 := rw_cl (c := 1) (by omega) (by omega)
      have i2 : (nI k * 3 + 2).toNatClampNeg = 3 * k + 2 := rw_cl (c := 2) (by omega) (by omega)
      have b0 := hA1 (3 * k) (by omega)
      have b1 := hA1 (3 * k + 1) (by omega)
      have b2 := hA1 (3 * k + 2) (by omega)
      have b3 := hA3 k hk
      have m0 := am_abs b0 (show (x : Int).natAbs ≤ 20 by omega)
      have m1 := am_abs b1 (show (y : Int).natAbs ≤ 20 by omega)
      have e5 : A3 k - A1 (3 * k) * nI x - A1 (3 * k + 1) * nI y = am_I ((A3 k).toInt - (A1 (3 * k)).toInt * x - (A1 (3 * k + 1)).toInt * y) := by
        rw [am_nI, am_nI, ← am_Isub, ← am_Isub, ← am_Imul, ← am_Imul, ← am_Iof, ← am_Iof, ← am_Iof]
      have dot : ∀ z : Int, rw_dot A1 k (ct_p x y z) = (A1 (3 * k)).toInt * x + (A1 (3 * k + 1)).toInt * y + (A1 (3 * k + 2)).toInt * z := fun z => rfl
      refine ⟨rw_in (c := 2) (by omega) (by omega), nm_r (e' := am_I (A1 (3 * k + 2)).toInt) (by rw [i2, ← am_Iof]) ⟨pk_in k 5 hk, ⟨v0, ⟨rw_in (c := 1) (by omega) (by omega), nm_r (e' := am_I ((A3 k).toInt - (A1 (3 * k)).toInt * x - (A1 (3 * k + 1)).toInt * y)) (by rw [ck, i0, i1]; exact e5) ⟨pk_in k 5 hk, ?_⟩⟩⟩⟩⟩
      rw [ck]
      have k88 : ∀ l g : Int, 0 ≤ l → l ≤ 100000 → -100000 ≤ g → g ≤ 20 → (∀ z, 0 ≤ z → z ≤ 20 → (rw_cs Fpr (-1) A1 A2 A3 k (ct_p x y z) 1 ∧ (¬ A2 k = 2 → (A1 (3 * k + 2)).toInt * z ≤ (A3 k).toInt - (A1 (3 * k)).toInt * x - (A1 (3 * k + 1)).toInt * y) ↔ l ≤ z ∧ z ≤ g)) → wX_thirds_88 post (wX_thirds_13 post (nI x) (nI y) n) (nI x) (nI y) (nI k) (am_I (A1 (3 * k + 2)).toInt) (am_I ((A3 k).toInt - (A1 (3 * k)).toInt * x - (A1 (3 * k + 1)).toInt * y)) Fpr Fwo Frw Ftu Fun Fco Ffw Fwc Fwt Fwb Fln Fem Fhh Fht Fhb Fhl Flt Flb Fbr (am_I l) (am_I g) A1 A2 A3 A4 A5 A6 A7 A8 A9 A10 A11 A12 A13 A14 A15 A16 A17 A18 A19 := by
        intro l g l0 l1 g0 g1 hP
        refine ⟨pk_in k 5 hk, ?_⟩
        rw [ck]
        refine br_c (fun z0 => nm_r (nI_1 k) (hn (am_I l, am_I g) ⟨l, g, rfl, rfl, l0, l1, g0, g1, fun z z1 z2 => ?_⟩)) (fun z0 => ?_)
        · rw [rw_csS, ← hP z z1 z2]
          constructor
          · intro ⟨a, b⟩
            refine ⟨a, fun q => ?_⟩
            have := (b yes (ct_ne k hk)).1 q
            rw [dot z] at this
            omega
          · intro ⟨a, b⟩
            refine ⟨a, fun _ _ => ⟨fun q => ?_, fun q => absurd z0 q⟩⟩
            have := b q
            rw [dot z]
            omega
        · rw [am_Ineg, am_Ineg]
          refine ct_narrow rfl rfl l0 l1 g0 g1 hP (by omega) (by omega) (fun l' g' l0' l1' g0' g1' hP' => nm_r (nI_1 k) (hn (am_I l', am_I g') ⟨l', g', rfl, rfl, l0', l1', g0', g1', fun z z1 z2 => ?_⟩))
          rw [rw_csS, ← hP' z z1 z2]
          have ng : -(A1 (3 * k + 2)).toInt * z = -((A1 (3 * k + 2)).toInt * z) := by grind
          constructor
          · intro ⟨a, b⟩
            obtain ⟨c1, c2⟩ := b yes (ct_ne k hk)
            have q2 := c2 z0
            rw [dot z] at q2
            refine ⟨⟨a, fun q => ?_⟩, ?_⟩
            · have := c1 q
              rw [dot z] at this
              omega
            · rw [ng]
              omega
          · intro ⟨⟨a, b⟩, c⟩
            rw [ng] at c
            refine ⟨a, fun _ _ => ⟨fun q => ?_, fun _ => ?_⟩⟩
            · have := b q
              rw [dot z]
              omega
            · rw [dot z]
              omega
      refine br_c (fun z2 => k88 l g l0 l1 g0 g1 (fun z y1 y2 => ?_)) (fun z2 => ?_)
      · rw [← hP z y1 y2]
        exact ⟨fun h => h.1, fun h => ⟨h, fun q => absurd z2 q⟩⟩
      · refine ct_narrow rfl rfl l0 l1 g0 g1 hP b2 (by omega) (fun l' g' l0' l1' g0' g1' hP' => k88 l' g' l0' l1' g0' g1' (fun z y1 y2 => ?_))
        rw [← hP' z y1 y2]
        exact ⟨fun h => ⟨h.1, h.2 z2⟩, fun h => ⟨h.1, fun _ => h.2⟩⟩
noncomputable def ct_row (Fpr : Int32) (A1 A2 A3 : Nat → Int32) (x : Nat) (n : Nat) : Int := rw_sum (fun y => ct_v (ct_P Fpr A1 A2 A3 x y)) n
noncomputable def ct_n (Fpr : Int32) (A1 A2 A3 : Nat → Int32) : Int := rw_sum (fun x => ct_row Fpr A1 A2 A3 x 21) 21
/-- all thirds are counted -/
def ct_all (Fpr : Int32) (A1 A2 A3 : Nat → Int32) : Prop := ∀ x y, x < 21 → y < 21 → ct_t (ct_P Fpr A1 A2 A3 x y) (ct_v (ct_P Fpr A1 A2 A3 x y))
theorem ct_wholes {post : Int32 → St1 → Prop} {Fpr Fwo Frw Ftu : Int32} {Fun : Int64} {Fco Ffw Fwc : Int32} {Fwt Fwb : Int64} {Fln Fem Fhh : Int32} {Fht Fhb : Int64} {Fhl : Int32} {Flt Flb : Int64} {Fbr Fl3 Fg3 : Int32} {A1 A2 A3 A4 A5 A6 A7 A8 A9 : Nat → Int32} {A10 : Nat → Int64} {A11 A12 : Nat → Int32} {A13 A14 A15 A16 A17 : Nat → Int64} {A18 A19 : Nat → Int32} (hA1 : ∀ j, j < 15 → (A1 j).toInt.natAbs ≤ 7) (hA3 : ∀ j, j < 5 → (A3 j).toInt.natAbs ≤ 99)
    (H : ∀ (wo rq tu : Int32) (un : Int64) (co fw wc : Int32) (wt wb : Int64) (ln em hh : Int32) (ht hb : Int64) (hl : Int32) (lt lb : Int64) (br l3 g3 : Int32) (b5 b6 b7 b8 b9 : Nat → Int32) (b10 : Nat → Int64) (b11 b12 : Nat → Int32) (b13 b14 b15 b16 b17 : Nat → Int64) (b18 b19 : Nat → Int32), ct_all Fpr A1 A2 A3 → post (am_I (ct_n Fpr A1 A2 A3)) (Fpr, wo, rq, tu, un, co, fw, wc, wt, wb, ln, em, hh, ht, hb, hl, lt, lb, br, l3, g3, A1, A2, A3, A4, b5, b6, b7, b8, b9, b10, b11, b12, b13, b14, b15, b16, b17, b18, b19)) : wpX_wholes post (Fpr, Fwo, Frw, Ftu, Fun, Fco, Ffw, Fwc, Fwt, Fwb, Fln, Fem, Fhh, Fht, Fhb, Fhl, Flt, Flb, Fbr, Fl3, Fg3, A1, A2, A3, A4, A5, A6, A7, A8, A9, A10, A11, A12, A13, A14, A15, A16, A17, A18, A19) := by
  unfold wpX_wholes
  refine wk_askWhole (fun b5 b6 hbb => ?_)
  refine pk_loop (fun n x (s : Int32 × Int32 × Int32) => wX_wholes_8 post n s.1 (nI x) Fpr (-1) Frw Ftu Fun Fco Ffw Fwc Fwt Fwb Fln Fem Fhh Fht Fhb Fhl Flt Flb Fbr (s.2.1) (s.2.2) A1 A2 A3 A4 b5 b6 A7 A8 A9 A10 A11 A12 A13 A14 A15 A16 A17 A18 A19) (fun x s => s.1 = am_I (rw_sum (fun x => ct_row Fpr A1 A2 A3 x 21) x) ∧ ∀ x' y, x' < x → y < 21 → ct_t (ct_P Fpr A1 A2 A3 x' y) (ct_v (ct_P Fpr A1 A2 A3 x' y))) 21 0 (0, Fl3, Fg3) (by omega) ⟨rfl, fun x' y h => absurd h (by omega)⟩ ?_ ?_
  · intro n s ⟨e, h⟩
    obtain ⟨s1, s2, s3⟩ := s
    try dsimp only at e
    subst e
    exact pk_lt 20 21 (fun _ => H _ _ _ _ _ _ _ _ _ _ _ _ _ _ _ _ _ _ _ _ _ _ _ _ _ _ _ _ _ _ _ _ _ _ _ h) (fun z => absurd z (by omega))
  · intro n x s hx ⟨e, h⟩ hk
    obtain ⟨s1, s2, s3⟩ := s
    try dsimp only at e
    subst e
    refine pk_lt 20 x (fun z => absurd z (by omega)) (fun _ => ?_)
    refine pk_loop (fun n' y (s : Int32 × Int32 × Int32) => wX_wholes_16 post (wX_wholes_8 post n) (nI x) n' s.1 (nI y) Fpr (-1) Frw Ftu Fun Fco Ffw Fwc Fwt Fwb Fln Fem Fhh Fht Fhb Fhl Flt Flb Fbr (s.2.1) (s.2.2) A1 A2 A3 A4 b5 b6 A7 A8 A9 A10 A11 A12 A13 A14 A15 A16 A17 A18 A19) (fun y s => s.1 = am_I (rw_sum (fun x => ct_row Fpr A1 A2 A3 x 21) x + ct_row Fpr A1 A2 A3 x y) ∧ ∀ y', y' < y → ct_t (ct_P Fpr A1 A2 A3 x y') (ct_v (ct_P Fpr A1 A2 A3 x y'))) 21 0 (am_I (rw_sum (fun x => ct_row Fpr A1 A2 A3 x 21) x), s2, s3) (by omega) ⟨?_, fun y' h => absurd h (by omega)⟩ ?_ ?_
    · show am_I _ = am_I (_ + 0)
      rw [Int.add_zero]
    · intro n' s ⟨e, h'⟩
      obtain ⟨s1, s2, s3⟩ := s
      try dsimp only at e
      subst e
      refine pk_lt 20 21 (fun _ => nm_r (nI_1 x) (hk (_, s2, s3) ⟨rfl, fun x' y hx' hy => ?_⟩)) (fun z => absurd z (by omega))
      rcases Nat.lt_or_ge x' x with q | q
      · exact h x' y q hy
      · rw [show x' = x by omega]
        exact h' y hy
    · intro n' y s hy ⟨e, h'⟩ hk'
      obtain ⟨s1, s2, s3⟩ := s
      try dsimp only at e
      subst e
      refine pk_lt 20 y (fun z => absurd z (by omega)) (fun _ => ct_thirds (by omega) (by omega) hA1 hA3 (fun t l3 g3 ht => ?_))
      obtain ⟨et, ht'⟩ := ct_vt ht
      refine nm_r (am_Iadd _ _) (nm_r (nI_1 y) (hk' (_, l3, g3) ⟨?_, lt_s h' ht'⟩))
      rw [et]
      show am_I _ = am_I (_ + (rw_sum (fun y => ct_v (ct_P Fpr A1 A2 A3 x y)) y + ct_v (ct_P Fpr A1 A2 A3 x y)))
      congr 1
      show _ + rw_sum (fun y => ct_v (ct_P Fpr A1 A2 A3 x y)) y + _ = _
      omega
theorem ct_summ {f g : Nat → Int} : ∀ n, (∀ k, k < n → f k ≤ g k) → rw_sum f n ≤ rw_sum g n := by
  intro n
  induction n with
  | zero => intro _; exact Int.le_refl 0
  | succ n ih =>
    intro h
    have a := ih (fun k hk => h k (by omega))
    have b := h n (by omega)
    show rw_sum f n + f n ≤ rw_sum g n + g n
    omega
theorem ct_sumc (c : Int) : ∀ n : Nat, rw_sum (fun _ => c) n = c * n := by
  intro n
  induction n with
  | zero => simp [rw_sum]
  | succ n ih =>
    show rw_sum (fun _ => c) n + c = _
    rw [ih]
    grind
theorem ct_sum0 {f : Nat → Int} : ∀ n, (∀ k, k < n → 0 ≤ f k) → (0 < rw_sum f n ↔ ∃ k, k < n ∧ 0 < f k) := by
  intro n
  induction n with
  | zero =>
    intro _
    constructor
    · intro h
      exact absurd h (by simp [rw_sum])
    · intro ⟨k, hk, _⟩
      exact absurd hk (by omega)
  | succ n ih =>
    intro h
    have q := ih (fun k hk => h k (by omega))
    have b := h n (by omega)
    have s0 : 0 ≤ rw_sum f n := by
      have := ct_summ (f := fun _ => 0) (g := f) n (fun k hk => h k (by omega))
      rw [ct_sumc] at this
      omega
    show 0 < rw_sum f n + f n ↔ _
    constructor
    · intro hp
      by_cases z : 0 < f n
      · exact ⟨n, by omega, z⟩
      · obtain ⟨k, hk, hf⟩ := q.mp (by omega)
        exact ⟨k, by omega, hf⟩
    · intro ⟨k, hk, hf⟩
      rcases Nat.lt_or_ge k n with z | z
      · have := q.mpr ⟨k, z, hf⟩
        omega
      · rw [show k = n by omega] at hf
        omega
theorem ct_nb {Fpr : Int32} {A1 A2 A3 : Nat → Int32} (h : ct_all Fpr A1 A2 A3) : 0 ≤ ct_n Fpr A1 A2 A3 ∧ ct_n Fpr A1 A2 A3 ≤ 9261 ∧ (0 < ct_n Fpr A1 A2 A3 ↔ ∃ p, so_A Fpr A1 A2 A3 p 1) := by
  have r0 : ∀ x, x < 21 → 0 ≤ ct_row Fpr A1 A2 A3 x 21 := by
    intro x hx
    have := ct_summ (f := fun _ => 0) (g := fun y => ct_v (ct_P Fpr A1 A2 A3 x y)) 21 (fun y hy => (ct_b (h x y hx hy)).1)
    rw [ct_sumc] at this
    unfold ct_row
    omega
  refine ⟨?_, ?_, ?_⟩
  · have := ct_summ (f := fun _ => 0) (g := fun x => ct_row Fpr A1 A2 A3 x 21) 21 (fun x hx => r0 x hx)
    rw [ct_sumc] at this
    unfold ct_n
    omega
  · have := ct_summ (f := fun x => ct_row Fpr A1 A2 A3 x 21) (g := fun _ => 441) 21 (fun x hx => by
      have q := ct_summ (f := fun y => ct_v (ct_P Fpr A1 A2 A3 x y)) (g := fun _ => 21) 21 (fun y hy => (ct_b (h x y hx hy)).2.1)
      rw [ct_sumc] at q
      unfold ct_row
      omega)
    rw [ct_sumc] at this
    unfold ct_n
    omega
  · unfold ct_n
    rw [ct_sum0 21 r0]
    constructor
    · intro ⟨x, hx, hr⟩
      unfold ct_row at hr
      rw [ct_sum0 21 (fun y hy => (ct_b (h x y hx hy)).1)] at hr
      obtain ⟨y, hy, hv⟩ := hr
      obtain ⟨z, z1, z2, hz⟩ := (ct_b (h x y hx hy)).2.2.mp hv
      refine ⟨ct_p x y z, by decide, fun i hi => ?_, hz⟩
      unfold ct_p
      split
      · omega
      · split <;> omega
    · intro ⟨p, _, hb, hc⟩
      have p0 := hb 0 (by decide)
      have p1 := hb 1 (by decide)
      have p2 := hb 2 (by decide)
      refine ⟨(p 0).toNat, by omega, ?_⟩
      unfold ct_row
      rw [ct_sum0 21 (fun y hy => (ct_b (h _ y (by omega) hy)).1)]
      refine ⟨(p 1).toNat, by omega, ?_⟩
      rw [(ct_b (h _ _ (by omega) (by omega))).2.2]
      refine ⟨p 2, by omega, by omega, fun k hk h1 h2 => ?_⟩
      have := hc k hk h1 h2
      unfold rw_c at *
      have e : rw_dot A1 k (ct_p (p 0).toNat (p 1).toNat (p 2)) = rw_dot A1 k p := by
        unfold rw_dot ct_p
        simp
        rw [show max (p 0) 0 = p 0 by omega, show max (p 1) 0 = p 1 by omega]
      rw [e]
      exact this
theorem ct_nmono {F F' : Int32} {A1 A2 A3 B1 B2 B3 : Nat → Int32} (h : ct_all F A1 A2 A3) (h' : ct_all F' B1 B2 B3) (hp : ∀ X, rw_cs F' (-1) B1 B2 B3 5 X 1 → rw_cs F (-1) A1 A2 A3 5 X 1) : ct_n F' B1 B2 B3 ≤ ct_n F A1 A2 A3 := by
  unfold ct_n
  refine ct_summ 21 (fun x hx => ?_)
  unfold ct_row
  exact ct_summ 21 (fun y hy => ct_mono (h x y hx hy) (h' x y hx hy) (fun z _ _ q => hp _ q))
end
section
/-- the numbers of the conditions and of the goal -/
def iv_ok (Fpr : Int32) (A1 A2 A3 A4 : Nat → Int32) : Prop := (∃ P : Nat, P < 32 ∧ Fpr = nI P) ∧ (∀ j, j < 15 → (A1 j).toInt.natAbs ≤ 7) ∧ (∀ j, j < 5 → (A3 j).toInt.natAbs ≤ 99) ∧ (∀ j, j < 3 → (A4 j).toInt.natAbs ≤ 7)
theorem iv_num {post : Int32 → Prop} {v i : Nat} (hv : v < 3375) (hi : i < 3) (H : ∀ z : Int, -7 ≤ z → z ≤ 7 → post (am_I z)) : wpX_numberOf post () (nI v) (nI i) := by
  have fin : ∀ a : Nat, a < 15 → post (nI a - 7) := by
    intro a ha
    have := H ((a : Int) - 7) (by omega) (by omega)
    rw [← am_Isub, ← am_nI] at this
    exact this
  have r : ∀ a : Nat, a < 3375 → nI a - nI a / 15 * 15 = nI (a % 15) := fun a ha => pk_rem (by omega) (by decide) (by decide)
  refine pk_eq i 0 (fun _ => ⟨by decide, ?_⟩) (fun _ => pk_eq i 1 (fun _ => ⟨by decide, nm_r (e' := nI (v / 15)) (pk_div (by omega) (by decide) (by decide)) ⟨by decide, ?_⟩⟩) (fun _ => ⟨by decide, nm_r (e' := nI (v / 225)) (pk_div (by omega) (by decide) (by decide)) ⟨by decide, ?_⟩⟩))
  · rw [r v hv]
    exact fin _ (Nat.mod_lt _ (by decide))
  · rw [r _ (by omega)]
    exact fin _ (Nat.mod_lt _ (by decide))
  · rw [r _ (by omega)]
    exact fin _ (Nat.mod_lt _ (by decide))
theorem iv_b8 {z : Int} (h1 : -7 ≤ z) (h2 : z ≤ 7) : ((am_I z).toInt8.toInt32).toInt.natAbs ≤ 7 := by
  rw [am_I8 (by omega) (by omega), am_Iint ⟨by omega, by omega⟩]
  omega
theorem tn_goal {post : Int32 → St1 → Prop} {Fpr Fwo Frw Ftu : Int32} {Fun : Int64} {Fco Ffw Fwc : Int32} {Fwt Fwb : Int64} {Fln Fem Fhh : Int32} {Fht Fhb : Int64} {Fhl : Int32} {Flt Flb : Int64} {Fbr Fl3 Fg3 : Int32} {A1 A2 A3 A4 A5 A6 A7 A8 A9 : Nat → Int32} {A10 : Nat → Int64} {A11 A12 : Nat → Int32} {A13 A14 A15 A16 A17 : Nat → Int64} {A18 A19 : Nat → Int32} {p : Int32} (h : iv_ok Fpr A1 A2 A3 A4) (H : ∀ (r : Int32) (B4 : Nat → Int32), iv_ok Fpr A1 A2 A3 B4 → post r (Fpr, Fwo, Frw, Ftu, Fun, Fco, Ffw, Fwc, Fwt, Fwb, Fln, Fem, Fhh, Fht, Fhb, Fhl, Flt, Flb, Fbr, Fl3, Fg3, A1, A2, A3, B4, A5, A6, A7, A8, A9, A10, A11, A12, A13, A14, A15, A16, A17, A18, A19)) : wpX_goal post (Fpr, Fwo, Frw, Ftu, Fun, Fco, Ffw, Fwc, Fwt, Fwb, Fln, Fem, Fhh, Fht, Fhb, Fhl, Flt, Flb, Fbr, Fl3, Fg3, A1, A2, A3, A4, A5, A6, A7, A8, A9, A10, A11, A12, A13, A14, A15, A16, A17, A18, A19) p := by
  refine br_c (fun _ => H _ _ h) (fun p0 => br_c (fun p1 => ?_) (fun _ => H _ _ h))
  obtain ⟨v, hv, rfl⟩ := nI_of p0
  have hv' : v < 3375 := (nI_ltI (b := 3375) (by omega) (by omega)).mp p1
  obtain ⟨h1, h2, h3, h4⟩ := h
  refine pk_loop (fun n i (s : Nat → Int32) => wX_goal_15 post (nI v) Fpr Fwo Frw Ftu Fun Fco Ffw Fwc Fwt Fwb Fln Fem Fhh Fht Fhb Fhl Flt Flb Fbr Fl3 Fg3 n (nI i) A1 A2 A3 s A5 A6 A7 A8 A9 A10 A11 A12 A13 A14 A15 A16 A17 A18 A19) (fun i s => ∀ j, j < 3 → (s j).toInt.natAbs ≤ 7) 3 0 A4 (by omega) h4 ?_ ?_
  · intro n s hs
    exact pk_le 3 3 (fun _ => H _ _ ⟨h1, h2, h3, hs⟩) (fun z => absurd z (by omega))
  · intro n i s hi hs hk
    refine pk_le 3 i (fun z => absurd z (by omega)) (fun _ => iv_num hv' hi (fun z z1 z2 => ⟨pk_in i 3 hi, nm_r (by rw [nI_clamp (show i < 2 ^ 31 by omega)]) (nm_r (nI_1 i) (hk (upd s i (am_I z).toInt8.toInt32) (fun j hj => ?_)))⟩))
    by_cases g : j = i
    · rw [g, pk_us]
      exact iv_b8 z1 z2
    · rw [pk_un g]
      exact hs j hj
theorem tn_add {post : Int32 → St1 → Prop} {Fpr Fwo Frw Ftu : Int32} {Fun : Int64} {Fco Ffw Fwc : Int32} {Fwt Fwb : Int64} {Fln Fem Fhh : Int32} {Fht Fhb : Int64} {Fhl : Int32} {Flt Flb : Int64} {Fbr Fl3 Fg3 : Int32} {A1 A2 A3 A4 A5 A6 A7 A8 A9 : Nat → Int32} {A10 : Nat → Int64} {A11 A12 : Nat → Int32} {A13 A14 A15 A16 A17 : Nat → Int64} {A18 A19 : Nat → Int32} {p0 p1 p2 : Int32} (h : iv_ok Fpr A1 A2 A3 A4) (H0 : ∀ r : Int32, post r (Fpr, Fwo, Frw, Ftu, Fun, Fco, Ffw, Fwc, Fwt, Fwb, Fln, Fem, Fhh, Fht, Fhb, Fhl, Flt, Flb, Fbr, Fl3, Fg3, A1, A2, A3, A4, A5, A6, A7, A8, A9, A10, A11, A12, A13, A14, A15, A16, A17, A18, A19))
    (H1 : ∀ (r : Int32) (k : Nat) (B1 B2 B3 : Nat → Int32), k < 5 → ¬ hs_b Fpr k → (∀ j, (j < 3 * k ∨ 3 * k + 3 ≤ j) → B1 j = A1 j) → (∀ j, j < 15 → (B1 j).toInt.natAbs ≤ 7) → (∀ j, j ≠ k → B2 j = A2 j) → (∀ j, j ≠ k → B3 j = A3 j) → (∀ j, j < 5 → (B3 j).toInt.natAbs ≤ 99) → post r ((Fpr ||| ((1 : Int32) <<< (nI k &&& 31))), Fwo, Frw, Ftu, Fun, Fco, Ffw, Fwc, Fwt, Fwb, Fln, Fem, Fhh, Fht, Fhb, Fhl, Flt, Flb, Fbr, Fl3, Fg3, B1, B2, B3, A4, A5, A6, A7, A8, A9, A10, A11, A12, A13, A14, A15, A16, A17, A18, A19)) : wpX_add post (Fpr, Fwo, Frw, Ftu, Fun, Fco, Ffw, Fwc, Fwt, Fwb, Fln, Fem, Fhh, Fht, Fhb, Fhl, Flt, Flb, Fbr, Fl3, Fg3, A1, A2, A3, A4, A5, A6, A7, A8, A9, A10, A11, A12, A13, A14, A15, A16, A17, A18, A19) p0 p1 p2 := by
  obtain ⟨h1, h2, h3, h4⟩ := h
  refine br_c (fun _ => H0 _) (fun q0 => br_c (fun _ => H0 _) (fun q1 => br_c (fun _ => H0 _) (fun q2 => br_c (fun _ => H0 _) (fun q3 => br_c (fun _ => H0 _) (fun q4 => br_c (fun q5 => ?_) (fun _ => H0 _))))))
  obtain ⟨v, hv, rfl⟩ := nI_of q0
  have hv' : v < 3375 := by
    rcases Nat.lt_or_ge v 3375 with z | z
    · exact z
    · exact absurd ((nI_leI (a := 3375) (by omega) (by omega)).mpr z) q1
  have b2 : -99 ≤ p2.toInt ∧ p2.toInt ≤ 99 := by
    have a := am_Ilt (a := p2.toInt) (b := -99) (am_IR3 _) ⟨by omega, by omega⟩
    have b := am_Ile (a := p2.toInt) (b := 99) (am_IR3 _) ⟨by omega, by omega⟩
    rw [← am_Iof] at a b
    have c := b.mp q5
    rcases am_lg p2.toInt (-99) with z | z
    · exact absurd (a.mpr z) q4
    · omega
  refine pk_loop (σ := Unit) (fun n k _ => wX_add_38 post (nI v) p1 p2 Fpr Fwo Frw Ftu Fun Fco Ffw Fwc Fwt Fwb Fln Fem Fhh Fht Fhb Fhl Flt Flb Fbr Fl3 Fg3 A1 A2 A3 A4 A5 A6 A7 A8 A9 A10 A11 A12 A13 A14 A15 A16 A17 A18 A19 n (nI k)) (fun _ _ => True) 5 0 () (by omega) trivial ?_ ?_
  · intro n _ _
    exact pk_le 5 5 (fun _ => H0 _) (fun z => absurd z (by omega))
  · intro n k _ hk _ hn
    have ck : (nI k).toNatClampNeg = k := nI_clamp (by omega)
    refine pk_le 5 k (fun z => absurd z (by omega)) (fun _ => wk_has hk (fun no => br_t rfl (nm_e ⟨pk_in k 5 hk, nm_r (by rw [ck]) ⟨pk_in k 5 hk, nm_r (e' := upd A3 k p2) ?_ ?_⟩⟩)) (fun yes => br_f (by decide) (nm_r (nI_1 k) (hn () trivial))))
    · have := am_I8 (a := p2.toInt) (by omega) (by omega)
      rw [← am_Iof] at this
      rw [ck, this]
    · refine pk_loop (fun n i (s : Nat → Int32) => wX_add_87 post (nI v) (nI k) (Fpr ||| ((1 : Int32) <<< (nI k &&& 31))) Fwo Frw Ftu Fun Fco Ffw Fwc Fwt Fwb Fln Fem Fhh Fht Fhb Fhl Flt Flb Fbr Fl3 Fg3 n (nI i) s (upd A2 k p1.toInt8.toInt32) (upd A3 k p2) A4 A5 A6 A7 A8 A9 A10 A11 A12 A13 A14 A15 A16 A17 A18 A19) (fun i s => (∀ j, (j < 3 * k ∨ 3 * k + 3 ≤ j) → s j = A1 j) ∧ ∀ j, j < 15 → (s j).toInt.natAbs ≤ 7) 3 0 A1 (by omega) ⟨fun _ _ => rfl, h2⟩ ?_ ?_
      · intro n s ⟨s1, s2⟩
        refine pk_le 3 3 (fun _ => H1 _ k s _ _ hk no s1 s2 (fun j hj => by rw [pk_un hj]) (fun j hj => by rw [pk_un hj]) (fun j hj => ?_)) (fun z => absurd z (by omega))
        by_cases g : j = k
        · rw [g, pk_us]
          omega
        · rw [pk_un g]
          exact h3 j hj
      · intro n i s hi ⟨s1, s2⟩ hk'
        refine pk_le 3 i (fun z => absurd z (by omega)) (fun _ => iv_num hv' hi (fun z z1 z2 => ⟨rw_in (by omega) (by omega), nm_r (by rw [rw_cl (by omega) hi]) (nm_r (nI_1 i) (hk' (upd s (3 * k + i) (am_I z).toInt8.toInt32) ⟨fun j hj => ?_, fun j hj => ?_⟩))⟩))
        · rw [pk_un (by omega)]
          exact s1 j hj
        · by_cases g : j = 3 * k + i
          · rw [g, pk_us]
            exact iv_b8 z1 z2
          · rw [pk_un g]
            exact s2 j hj
/-- has, of any number -/
theorem wk_hasx {post : Int32 → Prop} {Fpr Fwo Frw Ftu : Int32} {Fun : Int64} {Fco Ffw Fwc : Int32} {Fwt Fwb : Int64} {Fln Fem Fhh : Int32} {Fht Fhb : Int64} {Fhl : Int32} {Flt Flb : Int64} {Fbr Fl3 Fg3 : Int32} {A1 A2 A3 A4 A5 A6 A7 A8 A9 : Nat → Int32} {A10 : Nat → Int64} {A11 A12 : Nat → Int32} {A13 A14 A15 A16 A17 : Nat → Int64} {A18 A19 : Nat → Int32} {p : Int32} (H0 : (∀ k, k < 5 → p = nI k → ¬ hs_b Fpr k) → post 0) (H1 : ∀ k, k < 5 → p = nI k → hs_b Fpr k → post 1) : wpX_has post (Fpr, Fwo, Frw, Ftu, Fun, Fco, Ffw, Fwc, Fwt, Fwb, Fln, Fem, Fhh, Fht, Fhb, Fhl, Flt, Flb, Fbr, Fl3, Fg3, A1, A2, A3, A4, A5, A6, A7, A8, A9, A10, A11, A12, A13, A14, A15, A16, A17, A18, A19) p := by
  refine br_c (fun q => H0 (fun k hk e => ?_)) (fun q => br_c (fun q2 => H0 (fun k hk e => ?_)) (fun q2 => ?_))
  · rw [e] at q
    exact absurd q (nI_pos (by omega))
  · rw [e] at q2
    exact absurd q2 (nI_ge (b := 5) hk (by omega))
  · obtain ⟨k, hk, e⟩ := nI_of q
    have hk5 : k < 5 := by
      rcases Nat.lt_or_ge k 5 with z | z
      · exact z
      · rw [e] at q2
        exact absurd (nI_le (a := 5) z (by omega)) q2
    rw [e]
    refine br_c (fun z => H0 (fun k' hk' e' => ?_)) (fun z => H1 k hk5 e z)
    rw [e, nI_eq (by omega) (by omega)] at e'
    rw [← e']
    exact fun y => y z
theorem tn_remove {post : Int32 → St1 → Prop} {Fpr Fwo Frw Ftu : Int32} {Fun : Int64} {Fco Ffw Fwc : Int32} {Fwt Fwb : Int64} {Fln Fem Fhh : Int32} {Fht Fhb : Int64} {Fhl : Int32} {Flt Flb : Int64} {Fbr Fl3 Fg3 : Int32} {A1 A2 A3 A4 A5 A6 A7 A8 A9 : Nat → Int32} {A10 : Nat → Int64} {A11 A12 : Nat → Int32} {A13 A14 A15 A16 A17 : Nat → Int64} {A18 A19 : Nat → Int32} {p : Int32} (H0 : (∀ k, k < 5 → p = nI k → ¬ hs_b Fpr k) → post 0 (Fpr, Fwo, Frw, Ftu, Fun, Fco, Ffw, Fwc, Fwt, Fwb, Fln, Fem, Fhh, Fht, Fhb, Fhl, Flt, Flb, Fbr, Fl3, Fg3, A1, A2, A3, A4, A5, A6, A7, A8, A9, A10, A11, A12, A13, A14, A15, A16, A17, A18, A19)) (H1 : ∀ k, k < 5 → p = nI k → hs_b Fpr k → post 1 ((Fpr &&& (((1 : Int32) <<< (nI k &&& 31)) ^^^ (-1))), Fwo, Frw, Ftu, Fun, Fco, Ffw, Fwc, Fwt, Fwb, Fln, Fem, Fhh, Fht, Fhb, Fhl, Flt, Flb, Fbr, Fl3, Fg3, A1, A2, A3, A4, A5, A6, A7, A8, A9, A10, A11, A12, A13, A14, A15, A16, A17, A18, A19)) : wpX_remove post (Fpr, Fwo, Frw, Ftu, Fun, Fco, Ffw, Fwc, Fwt, Fwb, Fln, Fem, Fhh, Fht, Fhb, Fhl, Flt, Flb, Fbr, Fl3, Fg3, A1, A2, A3, A4, A5, A6, A7, A8, A9, A10, A11, A12, A13, A14, A15, A16, A17, A18, A19) p := by
  unfold wpX_remove
  refine wk_hasx (fun no => br_t rfl (H0 no)) (fun k hk e yes => br_f (by decide) (nm_e ?_))
  rw [e]
  exact H1 k hk e yes
theorem bt_add : ∀ P : Fin 32, ∀ k : Fin 5, ((nI P.val >>> (nI k.val &&& 31)) &&& 1) = 0 → P.val + 2 ^ k.val < 32 ∧ (nI P.val ||| ((1 : Int32) <<< (nI k.val &&& 31))) = nI (P.val + 2 ^ k.val) ∧ nI P.val &&& (nI (P.val + 2 ^ k.val) ^^^ (-1)) = 0 ∧ ((nI (P.val + 2 ^ k.val) &&& (nI P.val ^^^ (-1))) &&& ((nI (P.val + 2 ^ k.val) &&& (nI P.val ^^^ (-1))) - 1)) = 0 := by decide +kernel
theorem bt_rem : ∀ P : Fin 32, ∀ k : Fin 5, ¬ ((nI P.val >>> (nI k.val &&& 31)) &&& 1) = 0 → 2 ^ k.val ≤ P.val ∧ (nI P.val &&& (((1 : Int32) <<< (nI k.val &&& 31)) ^^^ (-1))) = nI (P.val - 2 ^ k.val) ∧ nI (P.val - 2 ^ k.val) &&& (nI P.val ^^^ (-1)) = 0 ∧ ((nI P.val &&& (nI (P.val - 2 ^ k.val) ^^^ (-1))) &&& ((nI P.val &&& (nI (P.val - 2 ^ k.val) ^^^ (-1))) - 1)) = 0 := by decide +kernel
theorem bt_addS : ∀ P : Fin 32, ∀ k : Fin 5, ∀ j : Fin 5, ((nI P.val >>> (nI k.val &&& 31)) &&& 1) = 0 → ¬ ((nI P.val >>> (nI j.val &&& 31)) &&& 1) = 0 → ¬ ((nI (P.val + 2 ^ k.val) >>> (nI j.val &&& 31)) &&& 1) = 0 := by decide +kernel
theorem bt_remS : ∀ P : Fin 32, ∀ k : Fin 5, ∀ j : Fin 5, ¬ ((nI P.val >>> (nI k.val &&& 31)) &&& 1) = 0 → ¬ ((nI (P.val - 2 ^ k.val) >>> (nI j.val &&& 31)) &&& 1) = 0 → ¬ ((nI P.val >>> (nI j.val &&& 31)) &&& 1) = 0 := by decide +kernel
theorem bt_same : ∀ P : Fin 32, nI P.val &&& (nI P.val ^^^ (-1)) = 0 ∧ ((nI P.val &&& (nI P.val ^^^ (-1))) &&& ((nI P.val &&& (nI P.val ^^^ (-1))) - 1)) = 0 := by decide +kernel
/-- what a turn does: w is what the first number picks -/
def tn_mv (w F F' : Int32) (A1 A2 A3 B1 B2 B3 : Nat → Int32) : Prop :=
  (¬ 8 < w → F &&& (F' ^^^ (-1)) = 0 ∧ ((F' &&& (F ^^^ (-1))) &&& ((F' &&& (F ^^^ (-1))) - 1)) = 0 ∧ ∀ X, rw_cs F' (-1) B1 B2 B3 5 X 1 → rw_cs F (-1) A1 A2 A3 5 X 1) ∧
  (8 < w → ¬ 11 < w → F' &&& (F ^^^ (-1)) = 0 ∧ ((F &&& (F' ^^^ (-1))) &&& ((F &&& (F' ^^^ (-1))) - 1)) = 0 ∧ ∀ X, rw_cs F (-1) A1 A2 A3 5 X 1 → rw_cs F' (-1) B1 B2 B3 5 X 1) ∧
  (8 < w → 11 < w → F' = F ∧ ∀ X, rw_cs F' (-1) B1 B2 B3 5 X 1 ↔ rw_cs F (-1) A1 A2 A3 5 X 1)
theorem tn_ok {post : St1 → Prop} {Fpr Fwo Frw Ftu : Int32} {Fun : Int64} {Fco Ffw Fwc : Int32} {Fwt Fwb : Int64} {Fln Fem Fhh : Int32} {Fht Fhb : Int64} {Fhl : Int32} {Flt Flb : Int64} {Fbr Fl3 Fg3 : Int32} {A1 A2 A3 A4 A5 A6 A7 A8 A9 : Nat → Int32} {A10 : Nat → Int64} {A11 A12 : Nat → Int32} {A13 A14 A15 A16 A17 : Nat → Int64} {A18 A19 : Nat → Int32} {p1 p2 p3 p4 : Int32} (h : iv_ok Fpr A1 A2 A3 A4) (H : ∀ (F' : Int32) (B1 B2 B3 B4 : Nat → Int32), iv_ok F' B1 B2 B3 B4 → tn_mv (p1 &&& 15) Fpr F' A1 A2 A3 B1 B2 B3 → post (F', Fwo, Frw, Ftu, Fun, Fco, Ffw, Fwc, Fwt, Fwb, Fln, Fem, Fhh, Fht, Fhb, Fhl, Flt, Flb, Fbr, Fl3, Fg3, B1, B2, B3, B4, A5, A6, A7, A8, A9, A10, A11, A12, A13, A14, A15, A16, A17, A18, A19)) : wpL_turn post (Fpr, Fwo, Frw, Ftu, Fun, Fco, Ffw, Fwc, Fwt, Fwb, Fln, Fem, Fhh, Fht, Fhb, Fhl, Flt, Flb, Fbr, Fl3, Fg3, A1, A2, A3, A4, A5, A6, A7, A8, A9, A10, A11, A12, A13, A14, A15, A16, A17, A18, A19) p1 p2 p3 p4 := by
  obtain ⟨⟨P, hP, eP⟩, h2, h3, h4⟩ := id h
  have same := bt_same ⟨P, hP⟩
  try dsimp only at same
  rw [← eP] at same
  have add : ¬ 8 < (p1 &&& 15) → ∀ a b c : Int32, wL_turn_105 post c b a Fpr Fwo Frw Ftu Fun Fco Ffw Fwc Fwt Fwb Fln Fem Fhh Fht Fhb Fhl Flt Flb Fbr Fl3 Fg3 A1 A2 A3 A4 A5 A6 A7 A8 A9 A10 A11 A12 A13 A14 A15 A16 A17 A18 A19 := by
    intro hw a b c
    unfold wL_turn_105
    refine tn_add h (fun _ => H Fpr A1 A2 A3 A4 h ⟨fun _ => ⟨same.1, same.2, fun _ q => q⟩, fun q => absurd q hw, fun q => absurd q hw⟩) (fun r k B1 B2 B3 hk no g1 g2 g3 g4 g5 => ?_)
    have nb : ((nI P >>> (nI k &&& 31)) &&& 1) = 0 := by
      unfold hs_b at no
      rw [eP] at no
      exact Classical.not_not.mp no
    obtain ⟨t1, t2, t3, t4⟩ := bt_add ⟨P, hP⟩ ⟨k, hk⟩ nb
    try dsimp only at t1 t2 t3 t4
    refine H _ B1 B2 B3 A4 ⟨⟨P + 2 ^ k, t1, by rw [eP]; exact t2⟩, g2, g5, h4⟩ ⟨fun _ => ⟨?_, ?_, fun X q j hj hb hne => ?_⟩, fun q => absurd q hw, fun q => absurd q hw⟩
    · rw [eP, t2]
      exact t3
    · rw [eP, t2]
      exact t4
    · have njk : j ≠ k := by
        intro e
        rw [e] at hb
        exact no hb
      have hb' : hs_b (Fpr ||| ((1 : Int32) <<< (nI k &&& 31))) j := by
        unfold hs_b at hb ⊢
        rw [eP] at hb ⊢
        rw [t2]
        exact bt_addS ⟨P, hP⟩ ⟨k, hk⟩ ⟨j, hj⟩ nb hb
      have := q j hj hb' hne
      unfold rw_c rw_dot at this ⊢
      rw [g1 (3 * j) (by omega), g1 (3 * j + 1) (by omega), g1 (3 * j + 2) (by omega), g3 j njk, g4 j njk] at this
      exact this
  have rem : 8 < (p1 &&& 15) → ¬ 11 < (p1 &&& 15) → ∀ a : Int32, wL_turn_135 post a Fpr Fwo Frw Ftu Fun Fco Ffw Fwc Fwt Fwb Fln Fem Fhh Fht Fhb Fhl Flt Flb Fbr Fl3 Fg3 A1 A2 A3 A4 A5 A6 A7 A8 A9 A10 A11 A12 A13 A14 A15 A16 A17 A18 A19 := by
    intro hw hw2 a
    unfold wL_turn_135
    refine tn_remove (fun _ => H Fpr A1 A2 A3 A4 h ⟨fun q => absurd hw q, fun _ _ => ⟨same.1, same.2, fun _ q => q⟩, fun _ q => absurd q hw2⟩) (fun k hk e yes => ?_)
    have nb : ¬ ((nI P >>> (nI k &&& 31)) &&& 1) = 0 := by
      unfold hs_b at yes
      rw [eP] at yes
      exact yes
    obtain ⟨t1, t2, t3, t4⟩ := bt_rem ⟨P, hP⟩ ⟨k, hk⟩ nb
    try dsimp only at t1 t2 t3 t4
    refine H _ A1 A2 A3 A4 ⟨⟨P - 2 ^ k, Nat.lt_of_le_of_lt (Nat.sub_le _ _) hP, by rw [eP]; exact t2⟩, h2, h3, h4⟩ ⟨fun q => absurd hw q, fun _ _ => ⟨?_, ?_, fun X q j hj hb hne => ?_⟩, fun _ q => absurd q hw2⟩
    · rw [eP, t2]
      exact t3
    · rw [eP, t2]
      exact t4
    · refine q j hj ?_ hne
      unfold hs_b at hb ⊢
      rw [eP] at hb ⊢
      rw [t2] at hb
      exact bt_remS ⟨P, hP⟩ ⟨k, hk⟩ ⟨j, hj⟩ nb hb
  have goal : 8 < (p1 &&& 15) → 11 < (p1 &&& 15) → ∀ a : Int32, wL_turn_154 post a Fpr Fwo Frw Ftu Fun Fco Ffw Fwc Fwt Fwb Fln Fem Fhh Fht Fhb Fhl Flt Flb Fbr Fl3 Fg3 A1 A2 A3 A4 A5 A6 A7 A8 A9 A10 A11 A12 A13 A14 A15 A16 A17 A18 A19 := by
    intro hw hw2 a
    unfold wL_turn_154
    exact tn_goal h (fun r B4 h' => H Fpr A1 A2 A3 B4 h' ⟨fun q => absurd hw q, fun _ q => absurd hw2 q, fun _ _ => ⟨rfl, fun _ => Iff.rfl⟩⟩)
  have t73 : ¬ 8 < (p1 &&& 15) → ∀ z a : Int32, wL_turn_73 post p3 p4 z a Fpr Fwo Frw Ftu Fun Fco Ffw Fwc Fwt Fwb Fln Fem Fhh Fht Fhb Fhl Flt Flb Fbr Fl3 Fg3 A1 A2 A3 A4 A5 A6 A7 A8 A9 A10 A11 A12 A13 A14 A15 A16 A17 A18 A19 := by
    intro hw z a
    have t87 : ∀ b : Int32, wL_turn_87 post p4 z b a Fpr Fwo Frw Ftu Fun Fco Ffw Fwc Fwt Fwb Fln Fem Fhh Fht Fhb Fhl Flt Flb Fbr Fl3 Fg3 A1 A2 A3 A4 A5 A6 A7 A8 A9 A10 A11 A12 A13 A14 A15 A16 A17 A18 A19 := fun b => br_c (fun _ => add hw _ _ _) (fun _ => add hw _ _ _)
    exact br_c (fun _ => t87 _) (fun _ => ⟨by decide, t87 _⟩)
  have t18 : ∀ z : Int32, wL_turn_18 post p2 p3 p4 (p1 &&& 15) z Fpr Fwo Frw Ftu Fun Fco Ffw Fwc Fwt Fwb Fln Fem Fhh Fht Fhb Fhl Flt Flb Fbr Fl3 Fg3 A1 A2 A3 A4 A5 A6 A7 A8 A9 A10 A11 A12 A13 A14 A15 A16 A17 A18 A19 := by
    intro z
    exact nm_e (br_c (fun hw => br_c (fun hw2 => br_c (fun _ => goal hw hw2 _) (fun _ => goal hw hw2 _)) (fun hw2 => br_c (fun _ => rem hw hw2 _) (fun _ => ⟨by decide, rem hw hw2 _⟩))) (fun hw => br_c (fun _ => t73 hw _ _) (fun _ => t73 hw _ _)))
  exact nm_e (br_c (fun _ => t18 1) (fun _ => t18 0))
end
section
/-- the best of what all conditions allow -/
def sg_O (Fpr : Int32) (A1 A2 A3 ask : Nat → Int32) (X : Nat → Int) (q : Int) : Prop :=
  so_A Fpr A1 A2 A3 X q ∧ ∀ X' q', so_A Fpr A1 A2 A3 X' q' → ¬ lx_N (fun w => so_W ask X w * q' - so_W ask X' w * q)
theorem sg_W {ask b7 : Nat → Int32} (h : ∀ i, i < 3 → b7 i = ask i) (X : Nat → Int) (w : Nat) : so_W b7 X w = so_W ask X w := by
  unfold so_W fm_nm
  rw [h 0 (by decide), h 1 (by decide), h 2 (by decide)]
theorem sg_of {Fpr : Int32} {A1 A2 A3 ask b5 b6 b7 : Nat → Int32} (hb : ∀ i, i < 3 → b5 i = 0 ∧ b6 i = 20) (h7 : ∀ i, i < 3 → b7 i = ask i) {X : Nat → Int} {q : Int} (h : so_O Fpr (-1) A1 A2 A3 b5 b6 b7 X q) : sg_O Fpr A1 A2 A3 ask X q := by
  refine ⟨(so_AF hb X q).mp h.1, fun X' q' h' => ?_⟩
  have := h.2 X' q' ((so_AF hb X' q').mpr h')
  rw [lx_eq (a := fun w => so_W b7 X w * q' - so_W b7 X' w * q) (fun w _ => by
    try dsimp only
    rw [sg_W h7, sg_W h7])]
  exact this
theorem sg_uni {Fpr : Int32} {A1 A2 A3 ask : Nat → Int32} {X X' : Nat → Int} {q q' : Int} (h : sg_O Fpr A1 A2 A3 ask X q) (h' : sg_O Fpr A1 A2 A3 ask X' q') {i : Nat} (hi : i < 3) : X i * q' = X' i * q := by
  have a := h.2 X' q' h'.1
  have b := h'.2 X q h.1
  have c : so_W ask X (1 + i) * q' - so_W ask X' (1 + i) * q = 0 := by
    unfold lx_N at a b
    try dsimp only at a b
    have hi' : i = 0 ∨ i = 1 ∨ i = 2 := by omega
    rcases hi' with rfl | rfl | rfl
    · show so_W ask X 1 * q' - so_W ask X' 1 * q = 0
      omega
    · show so_W ask X 2 * q' - so_W ask X' 2 * q = 0
      omega
    · show so_W ask X 3 * q' - so_W ask X' 3 * q = 0
      omega
  have e : ∀ Y : Nat → Int, so_W ask Y (1 + i) = - Y i := by
    intro Y
    have hi' : i = 0 ∨ i = 1 ∨ i = 2 := by omega
    rcases hi' with rfl | rfl | rfl <;> simp [so_W, fm_nm]
  rw [e, e] at c
  have c1 : -X i * q' = -(X i * q') := by grind
  have c2 : -X' i * q = -(X' i * q) := by grind
  omega
theorem lw_goal {post : Int32 → St1 → Prop} {Fpr Fwo Frw Ftu : Int32} {Fun : Int64} {Fco Ffw Fwc : Int32} {Fwt Fwb : Int64} {Fln Fem Fhh : Int32} {Fht Fhb : Int64} {Fhl : Int32} {Flt Flb : Int64} {Fbr Fl3 Fg3 : Int32} {A1 A2 A3 A4 A5 A6 A7 A8 A9 : Nat → Int32} {A10 : Nat → Int64} {A11 A12 : Nat → Int32} {A13 A14 A15 A16 A17 : Nat → Int64} {A18 A19 : Nat → Int32} {e : Int32} (h : iv_ok Fpr A1 A2 A3 A4) (he : e = 0 ∨ e = 1) (H0 : (∀ X q, ¬ so_A Fpr A1 A2 A3 X q) → ∀ (wo rq tu : Int32) (un : Int64) (co fw wc : Int32) (wt wb : Int64) (ln em hh : Int32) (ht hb : Int64) (hl : Int32) (lt lb : Int64) (br l3 g3 : Int32) (b5 b6 b7 b8 b9 : Nat → Int32) (b10 : Nat → Int64) (b11 b12 : Nat → Int32) (b13 b14 b15 b16 b17 : Nat → Int64) (b18 b19 : Nat → Int32), post 0 (Fpr, wo, rq, tu, un, co, fw, wc, wt, wb, ln, em, hh, ht, hb, hl, lt, lb, br, l3, g3, A1, A2, A3, A4, b5, b6, b7, b8, b9, b10, b11, b12, b13, b14, b15, b16, b17, b18, b19))
    (H1 : ∀ X q, sg_O Fpr A1 A2 A3 A4 X q → q ≤ 57624 → ∀ (wo rq tu : Int32) (un : Int64) (co fw wc : Int32) (wt wb : Int64) (ln em hh : Int32) (ht hb : Int64) (hl : Int32) (lt lb : Int64) (br l3 g3 : Int32) (b5 b6 b7 b8 b9 : Nat → Int32) (b10 : Nat → Int64) (b11 b12 : Nat → Int32) (b13 b14 b15 b16 b17 : Nat → Int64) (b18 b19 : Nat → Int32), (∀ i, i < 3 → b13 i = am_L (X i)) → wt = am_L (so_W A4 X 0) → wb = am_L q → post 1 (Fpr, wo, rq, tu, un, co, fw, wc, wt, wb, ln, em, hh, ht, hb, hl, lt, lb, br, l3, g3, A1, A2, A3, A4, b5, b6, b7, b8, b9, b10, b11, b12, b13, b14, b15, b16, b17, b18, b19)) : wpX_solveGoal post (Fpr, Fwo, Frw, Ftu, Fun, Fco, Ffw, Fwc, Fwt, Fwb, Fln, Fem, Fhh, Fht, Fhb, Fhl, Flt, Flb, Fbr, Fl3, Fg3, A1, A2, A3, A4, A5, A6, A7, A8, A9, A10, A11, A12, A13, A14, A15, A16, A17, A18, A19) e := by
  unfold wpX_solveGoal
  obtain ⟨_, h2, h3, h4⟩ := h
  refine wk_askWhole (fun b5 b6 hbb => wk_askGoal h4 (fun b7 h7 => ?_))
  rcases he with he | he
  · refine br_t he (sp_ok h2 h3 (so_bx hbb) (so_a7 h4 h7) (fun no rq tu un co fw wc wt wb b8 b9 b10 b11 b12 b13 => ⟨rfl, ⟨rfl, H0 (fun X q hA => no X q ((so_AF hbb X q).mpr hA)) _ _ _ _ _ _ _ _ _ _ _ _ _ _ _ _ _ _ _ _ _ _ _ _ _ _ _ _ _ _ _ _ _ _ _⟩⟩) (fun X q hO hq rq tu un co fw wc wt wb b8 b9 b10 b11 b12 b13 g1 g2 g3 => ⟨rfl, ⟨rfl, H1 X q (sg_of hbb h7 hO) hq _ _ _ _ _ _ _ _ _ _ _ _ _ _ _ _ _ _ _ _ _ _ _ _ _ _ _ _ _ _ _ _ _ _ _ g1 (by rw [g2, sg_W h7]) g3⟩⟩))
  · refine br_f (by rw [he]; decide) (br_t he (sw_ok h2 h3 (so_bx hbb) (so_a7 h4 h7) (fun no rq tu un co fw wc wt wb b8 b9 b10 b11 b12 b13 => ⟨rfl, ⟨rfl, H0 (fun X q hA => no X q ((so_AF hbb X q).mpr hA)) _ _ _ _ _ _ _ _ _ _ _ _ _ _ _ _ _ _ _ _ _ _ _ _ _ _ _ _ _ _ _ _ _ _ _⟩⟩) (fun X q hO hq rq tu un co fw wc wt wb b8 b9 b10 b11 b12 b13 g1 g2 g3 => ⟨rfl, ⟨rfl, H1 X q (sg_of hbb h7 hO) hq _ _ _ _ _ _ _ _ _ _ _ _ _ _ _ _ _ _ _ _ _ _ _ _ _ _ _ _ _ _ _ _ _ _ _ g1 (by rw [g2, sg_W h7]) g3⟩⟩)))
theorem lw_goal2 {post : Int32 → St1 → Prop} {Fpr Fwo Frw Ftu : Int32} {Fun : Int64} {Fco Ffw Fwc : Int32} {Fwt Fwb : Int64} {Fln Fem Fhh : Int32} {Fht Fhb : Int64} {Fhl : Int32} {Flt Flb : Int64} {Fbr Fl3 Fg3 : Int32} {A1 A2 A3 A4 A5 A6 A7 A8 A9 : Nat → Int32} {A10 : Nat → Int64} {A11 A12 : Nat → Int32} {A13 A14 A15 A16 A17 : Nat → Int64} {A18 A19 : Nat → Int32} (h : iv_ok Fpr A1 A2 A3 A4) (H0 : (∀ X q, ¬ so_A Fpr A1 A2 A3 X q) → ∀ (wo rq tu : Int32) (un : Int64) (co fw wc : Int32) (wt wb : Int64) (ln em hh : Int32) (ht hb : Int64) (hl : Int32) (lt lb : Int64) (br l3 g3 : Int32) (b5 b6 b7 b8 b9 : Nat → Int32) (b10 : Nat → Int64) (b11 b12 : Nat → Int32) (b13 b14 b15 b16 b17 : Nat → Int64) (b18 b19 : Nat → Int32), post 0 (Fpr, wo, rq, tu, un, co, fw, wc, wt, wb, ln, em, hh, ht, hb, hl, lt, lb, br, l3, g3, A1, A2, A3, A4, b5, b6, b7, b8, b9, b10, b11, b12, b13, b14, b15, b16, b17, b18, b19))
    (H1 : (∃ X q, so_A Fpr A1 A2 A3 X q) → ∀ (wo rq tu : Int32) (un : Int64) (co fw wc : Int32) (wt wb : Int64) (ln em hh : Int32) (ht hb : Int64) (hl : Int32) (lt lb : Int64) (br l3 g3 : Int32) (b5 b6 b7 b8 b9 : Nat → Int32) (b10 : Nat → Int64) (b11 b12 : Nat → Int32) (b13 b14 b15 b16 b17 : Nat → Int64) (b18 b19 : Nat → Int32), post 1 (Fpr, wo, rq, tu, un, co, fw, wc, wt, wb, ln, em, hh, ht, hb, hl, lt, lb, br, l3, g3, A1, A2, A3, A4, b5, b6, b7, b8, b9, b10, b11, b12, b13, b14, b15, b16, b17, b18, b19)) : wpX_solveGoal post (Fpr, Fwo, Frw, Ftu, Fun, Fco, Ffw, Fwc, Fwt, Fwb, Fln, Fem, Fhh, Fht, Fhb, Fhl, Flt, Flb, Fbr, Fl3, Fg3, A1, A2, A3, A4, A5, A6, A7, A8, A9, A10, A11, A12, A13, A14, A15, A16, A17, A18, A19) 2 := by
  unfold wpX_solveGoal
  obtain ⟨_, h2, h3, h4⟩ := h
  refine wk_askWhole (fun b5 b6 hbb => wk_askGoal h4 (fun b7 h7 => ?_))
  refine br_f (by decide) (br_f (by decide) (st_ok h2 h3 (so_bx hbb) (so_a7 h4 h7) (fun no rq tu wt wb ln em hh ht hb hl lt lb b8 b9 b14 b15 b16 b17 => ⟨rfl, ⟨rfl, H0 (fun X q hA => no X q ((so_AF hbb X q).mpr hA)) _ _ _ _ _ _ _ _ _ _ _ _ _ _ _ _ _ _ _ _ _ _ _ _ _ _ _ _ _ _ _ _ _ _ _⟩⟩) (fun hX rq tu wt wb ln em hh ht hb hl lt lb b8 b9 b14 b15 b16 b17 => ⟨rfl, ⟨rfl, H1 ?_ _ _ _ _ _ _ _ _ _ _ _ _ _ _ _ _ _ _ _ _ _ _ _ _ _ _ _ _ _ _ _ _ _ _ _⟩⟩)))
  obtain ⟨X, q, hF⟩ := hX
  exact ⟨X, q, (so_AF hbb X q).mp hF⟩
theorem lw_feas {post : Int32 → St1 → Prop} {Fpr Fwo Frw Ftu : Int32} {Fun : Int64} {Fco Ffw Fwc : Int32} {Fwt Fwb : Int64} {Fln Fem Fhh : Int32} {Fht Fhb : Int64} {Fhl : Int32} {Flt Flb : Int64} {Fbr Fl3 Fg3 : Int32} {A1 A2 A3 A4 A5 A6 A7 A8 A9 : Nat → Int32} {A10 : Nat → Int64} {A11 A12 : Nat → Int32} {A13 A14 A15 A16 A17 : Nat → Int64} {A18 A19 : Nat → Int32} {e : Int32} (h : iv_ok Fpr A1 A2 A3 A4) (he : e = 0 ∨ e = 1 ∨ e = 2) (H0 : (∀ X q, ¬ so_A Fpr A1 A2 A3 X q) → ∀ (wo rq tu : Int32) (un : Int64) (co fw wc : Int32) (wt wb : Int64) (ln em hh : Int32) (ht hb : Int64) (hl : Int32) (lt lb : Int64) (br l3 g3 : Int32) (b5 b6 b7 b8 b9 : Nat → Int32) (b10 : Nat → Int64) (b11 b12 : Nat → Int32) (b13 b14 b15 b16 b17 : Nat → Int64) (b18 b19 : Nat → Int32), post 0 (Fpr, wo, rq, tu, un, co, fw, wc, wt, wb, ln, em, hh, ht, hb, hl, lt, lb, br, l3, g3, A1, A2, A3, A4, b5, b6, b7, b8, b9, b10, b11, b12, b13, b14, b15, b16, b17, b18, b19)) (H1 : (∃ X q, so_A Fpr A1 A2 A3 X q) → ∀ (wo rq tu : Int32) (un : Int64) (co fw wc : Int32) (wt wb : Int64) (ln em hh : Int32) (ht hb : Int64) (hl : Int32) (lt lb : Int64) (br l3 g3 : Int32) (b5 b6 b7 b8 b9 : Nat → Int32) (b10 : Nat → Int64) (b11 b12 : Nat → Int32) (b13 b14 b15 b16 b17 : Nat → Int64) (b18 b19 : Nat → Int32), post 1 (Fpr, wo, rq, tu, un, co, fw, wc, wt, wb, ln, em, hh, ht, hb, hl, lt, lb, br, l3, g3, A1, A2, A3, A4, b5, b6, b7, b8, b9, b10, b11, b12, b13, b14, b15, b16, b17, b18, b19)) : wpX_feasible post (Fpr, Fwo, Frw, Ftu, Fun, Fco, Ffw, Fwc, Fwt, Fwb, Fln, Fem, Fhh, Fht, Fhb, Fhl, Flt, Flb, Fbr, Fl3, Fg3, A1, A2, A3, A4, A5, A6, A7, A8, A9, A10, A11, A12, A13, A14, A15, A16, A17, A18, A19) e := by
  have go : wpX_solveGoal (fun r_3 u => (((r_3 = 0 → (post 0 u)) ∧ (¬ r_3 = 0 → (post 1 u))))) (Fpr, Fwo, Frw, Ftu, Fun, Fco, Ffw, Fwc, Fwt, Fwb, Fln, Fem, Fhh, Fht, Fhb, Fhl, Flt, Flb, Fbr, Fl3, Fg3, A1, A2, A3, A4, A5, A6, A7, A8, A9, A10, A11, A12, A13, A14, A15, A16, A17, A18, A19) e := by
    rcases he with he | he | he
    · exact lw_goal h (Or.inl he) (fun no wo rq tu un co fw wc wt wb ln em hh ht hb hl lt lb br l3 g3 b5 b6 b7 b8 b9 b10 b11 b12 b13 b14 b15 b16 b17 b18 b19 => br_t rfl (H0 no wo rq tu un co fw wc wt wb ln em hh ht hb hl lt lb br l3 g3 b5 b6 b7 b8 b9 b10 b11 b12 b13 b14 b15 b16 b17 b18 b19)) (fun X q hO hq wo rq tu un co fw wc wt wb ln em hh ht hb hl lt lb br l3 g3 b5 b6 b7 b8 b9 b10 b11 b12 b13 b14 b15 b16 b17 b18 b19 _ _ _ => br_f (by decide) (H1 ⟨X, q, hO.1⟩ wo rq tu un co fw wc wt wb ln em hh ht hb hl lt lb br l3 g3 b5 b6 b7 b8 b9 b10 b11 b12 b13 b14 b15 b16 b17 b18 b19))
    · exact lw_goal h (Or.inr he) (fun no wo rq tu un co fw wc wt wb ln em hh ht hb hl lt lb br l3 g3 b5 b6 b7 b8 b9 b10 b11 b12 b13 b14 b15 b16 b17 b18 b19 => br_t rfl (H0 no wo rq tu un co fw wc wt wb ln em hh ht hb hl lt lb br l3 g3 b5 b6 b7 b8 b9 b10 b11 b12 b13 b14 b15 b16 b17 b18 b19)) (fun X q hO hq wo rq tu un co fw wc wt wb ln em hh ht hb hl lt lb br l3 g3 b5 b6 b7 b8 b9 b10 b11 b12 b13 b14 b15 b16 b17 b18 b19 _ _ _ => br_f (by decide) (H1 ⟨X, q, hO.1⟩ wo rq tu un co fw wc wt wb ln em hh ht hb hl lt lb br l3 g3 b5 b6 b7 b8 b9 b10 b11 b12 b13 b14 b15 b16 b17 b18 b19))
    · rw [he]
      exact lw_goal2 h (fun no wo rq tu un co fw wc wt wb ln em hh ht hb hl lt lb br l3 g3 b5 b6 b7 b8 b9 b10 b11 b12 b13 b14 b15 b16 b17 b18 b19 => br_t rfl (H0 no wo rq tu un co fw wc wt wb ln em hh ht hb hl lt lb br l3 g3 b5 b6 b7 b8 b9 b10 b11 b12 b13 b14 b15 b16 b17 b18 b19)) (fun hX wo rq tu un co fw wc wt wb ln em hh ht hb hl lt lb br l3 g3 b5 b6 b7 b8 b9 b10 b11 b12 b13 b14 b15 b16 b17 b18 b19 => br_f (by decide) (H1 hX wo rq tu un co fw wc wt wb ln em hh ht hb hl lt lb br l3 g3 b5 b6 b7 b8 b9 b10 b11 b12 b13 b14 b15 b16 b17 b18 b19))
  refine br_f ?_ (br_f ?_ (br_f (by decide) go))
  · rcases he with he | he | he <;> rw [he] <;> decide
  · rcases he with he | he | he <;> rw [he] <;> decide
/-- a fraction in least terms -/
def rd_T (t q : Int) : Int := t / (dv_g t q : Int)
def rd_B (t q : Int) : Int := q / (dv_g t q : Int)
theorem rd_ok {t q : Int} (hq : 0 < q) : t = (dv_g t q : Int) * rd_T t q ∧ q = (dv_g t q : Int) * rd_B t q ∧ 1 ≤ rd_B t q ∧ rd_B t q ≤ q ∧ Nat.gcd (rd_T t q).natAbs (rd_B t q).natAbs = 1 ∧ (rd_T t q).natAbs ≤ t.natAbs := by
  have gp := dv_pos t q
  obtain ⟨c, hc⟩ := dv_l t q
  obtain ⟨d, hd⟩ := dv_r t q
  have gz : (dv_g t q : Int) ≠ 0 := by omega
  have eT : rd_T t q = c := by
    unfold rd_T
    generalize dv_g t q = g at *
    rw [hc]
    exact Int.mul_ediv_cancel_left c gz
  have eB : rd_B t q = d := by
    unfold rd_B
    generalize dv_g t q = g at *
    rw [hd]
    exact Int.mul_ediv_cancel_left d gz
  have hg : Nat.gcd t.natAbs q.natAbs ≠ 0 := by
    intro z
    have := Nat.eq_zero_of_gcd_eq_zero_right z
    omega
  have eg : dv_g t q = Nat.gcd t.natAbs q.natAbs := by
    unfold dv_g
    rw [if_neg hg]
  have dpos : 1 ≤ d := by
    rcases am_lg d 1 with z | z
    · have := Int.mul_nonneg (show 0 ≤ (dv_g t q : Int) by omega) (show 0 ≤ -d by omega)
      have e : (dv_g t q : Int) * -d = -((dv_g t q : Int) * d) := by grind
      omega
    · exact z
  rw [eT, eB]
  refine ⟨hc, hd, dpos, ?_, ?_, ?_⟩
  · have := Int.mul_le_mul_of_nonneg_right (show (1 : Int) ≤ (dv_g t q : Int) by omega) (show 0 ≤ d by omega)
    omega
  · have e1 : t.natAbs = dv_g t q * c.natAbs := by
      have : t.natAbs = ((dv_g t q : Int) * c).natAbs := by rw [← hc]
      rw [this, Int.natAbs_mul]
      rfl
    have e2 : q.natAbs = dv_g t q * d.natAbs := by
      have : q.natAbs = ((dv_g t q : Int) * d).natAbs := by rw [← hd]
      rw [this, Int.natAbs_mul]
      rfl
    have e3 : dv_g t q = dv_g t q * Nat.gcd c.natAbs d.natAbs := by
      rw [← Nat.gcd_mul_left, ← e1, ← e2, ← eg]
    have : dv_g t q * 1 = dv_g t q * Nat.gcd c.natAbs d.natAbs := by omega
    exact (Nat.eq_of_mul_eq_mul_left gp this).symm
  · exact al_le (by omega) hc (Nat.le_refl _)
theorem rd_eq {t q t' q' : Int} (hq : 0 < q) (hq' : 0 < q') (h : t * q' = t' * q) : rd_B t q = rd_B t' q' := by
  obtain ⟨a1, a2, a3, _, a5, _⟩ := rd_ok (t := t) hq
  obtain ⟨b1, b2, b3, _, b5, _⟩ := rd_ok (t := t') hq'
  have gp := dv_pos t q
  have gp' := dv_pos t' q'
  generalize rd_T t q = T at *
  generalize rd_B t q = B at *
  generalize rd_T t' q' = T' at *
  generalize rd_B t' q' = B' at *
  have g1 : (0 : Int) < (dv_g t q : Int) := by omega
  have g2 : (0 : Int) < (dv_g t' q' : Int) := by omega
  generalize (dv_g t q : Int) = g at *
  generalize (dv_g t' q' : Int) = g' at *
  have c : T * B' = T' * B := by
    have z : (g * g') * (T * B') = (g * g') * (T' * B) := by
      rw [a1, a2, b1, b2] at h
      grind
    exact Int.eq_of_mul_eq_mul_left (by
      intro y
      rcases Int.mul_eq_zero.mp y with u | u <;> omega) z
  have n : T.natAbs * B'.natAbs = T'.natAbs * B.natAbs := by
    rw [← Int.natAbs_mul, ← Int.natAbs_mul, c]
  have d1 : B.natAbs ∣ B'.natAbs := by
    have : B.natAbs ∣ T.natAbs * B'.natAbs := ⟨T'.natAbs, by rw [n, Nat.mul_comm]⟩
    exact Nat.Coprime.dvd_of_dvd_mul_left (by rw [Nat.Coprime, Nat.gcd_comm]; exact a5) this
  have d2 : B'.natAbs ∣ B.natAbs := by
    have : B'.natAbs ∣ T'.natAbs * B.natAbs := ⟨T.natAbs, by rw [← n, Nat.mul_comm]⟩
    exact Nat.Coprime.dvd_of_dvd_mul_left (by rw [Nat.Coprime, Nat.gcd_comm]; exact b5) this
  have := Nat.dvd_antisymm d1 d2
  omega
theorem lw_top {post : Int32 → Prop} {t q : Int} (hq : 0 < q) (hqb : q ≤ 57624) (ht : t.natAbs ≤ 2000000000) (H : post (am_I (rd_T t q))) : wpX_topOf post () (am_L t) (am_L q) := by
  unfold wpX_topOf
  refine dv_ok (by omega) (by omega) ?_
  obtain ⟨a1, a2, a3, a4, _, _⟩ := rd_ok (t := t) hq
  have gp := dv_pos t q
  have gb : (dv_g t q : Int) ≤ q := by
    have := Int.mul_le_mul_of_nonneg_left a3 (show 0 ≤ (dv_g t q : Int) by omega)
    omega
  have Rg : am_R (dv_g t q : Int) := ⟨by omega, by omega⟩
  have gn : ¬ am_L (dv_g t q : Int) = 0 := fun z => by
    have := (am_z0 Rg).mp z
    omega
  refine br_f gn ⟨gn, ?_⟩
  rw [am_Ldiv ⟨by omega, by omega⟩ Rg, am_LI]
  have e : t.tdiv (dv_g t q : Int) = rd_T t q := by
    have : ((dv_g t q : Int) * rd_T t q).tdiv (dv_g t q : Int) = rd_T t q := am_tdiv (by omega)
    rw [← a1] at this
    exact this
  rw [e]
  exact H
theorem lw_bot {post : Int32 → Prop} {t q : Int} (hq : 0 < q) (hqb : q ≤ 57624) (ht : t.natAbs ≤ 2000000000) (H : post (am_I (rd_B t q))) : wpX_bottomOf post () (am_L t) (am_L q) := by
  unfold wpX_bottomOf
  refine dv_ok (by omega) (by omega) ?_
  obtain ⟨a1, a2, a3, a4, _, _⟩ := rd_ok (t := t) hq
  have gp := dv_pos t q
  have gb : (dv_g t q : Int) ≤ q := by
    have := Int.mul_le_mul_of_nonneg_left a3 (show 0 ≤ (dv_g t q : Int) by omega)
    omega
  have Rg : am_R (dv_g t q : Int) := ⟨by omega, by omega⟩
  have gn : ¬ am_L (dv_g t q : Int) = 0 := fun z => by
    have := (am_z0 Rg).mp z
    omega
  refine br_f gn ⟨gn, ?_⟩
  rw [am_Ldiv ⟨by omega, by omega⟩ Rg, am_LI]
  have e : q.tdiv (dv_g t q : Int) = rd_B t q := by
    have : ((dv_g t q : Int) * rd_B t q).tdiv (dv_g t q : Int) = rd_B t q := am_tdiv (by omega)
    rw [← a2] at this
    exact this
  rw [e]
  exact H
theorem fr_loop {post : Int32 → Prop} {B : Nat} (hB : 1 ≤ B) (hB2 : B < 2 ^ 31) (H : post 1) : ∀ (f k a b : Nat), b < a → a < 2 ^ 31 → a * b < 2 ^ f → Nat.gcd a b = 1 → k + f ≤ 39 → wL_fraction_16 post (nI B) (f + 1) (nI a) (nI b) (nI k) := by
  have fin : ∀ a : Nat, a = 1 → wL_fraction_43 post (nI B) (nI a) := fun a ha => pk_lt B 1 (fun z => absurd z (by omega)) (fun _ => pk_eq a 1 (fun _ => H) (fun z => absurd ha z) (ha := by omega))
  intro f
  induction f with
  | zero =>
    intro k a b h1 h2 h3 h4 h5
    have b0 : b = 0 := by
      rcases Nat.eq_zero_or_pos b with z | z
      · exact z
      · have := Nat.mul_le_mul h1 z
        omega
    have a1 : a = 1 := by
      rw [b0, Nat.gcd_zero_right] at h4
      exact h4
    exact pk_le 40 k (fun z => absurd z (by omega)) (fun _ => pk_eq b 0 (fun _ => fin a a1) (fun z => absurd b0 z))
  | succ f ih =>
    intro k a b h1 h2 h3 h4 h5
    refine pk_le 40 k (fun z => absurd z (by omega)) (fun _ => pk_eq b 0 (fun z => fin a ?_) (fun z => ⟨nI_ne0 (by omega) (by omega), nm_r (pk_rem (by omega) (by omega) (by omega)) (nm_r (nI_1 k) (ih (k + 1) b (a % b) (Nat.mod_lt _ (by omega)) (by omega) ?_ ?_ (by omega)))⟩))
    · rw [z, Nat.gcd_zero_right] at h4
      exact h4
    · have m := Nat.mod_lt a (show 0 < b by omega)
      have d := Nat.div_add_mod a b
      have q1 : 1 ≤ a / b := Nat.div_pos (by omega) (by omega)
      have q2 : b * 1 ≤ b * (a / b) := Nat.mul_le_mul_left b q1
      have half : 2 * (a % b) ≤ a := by omega
      have : b * (2 * (a % b)) ≤ b * a := Nat.mul_le_mul_left b half
      have e1 : b * (2 * (a % b)) = 2 * (b * (a % b)) := by
        rw [Nat.mul_left_comm]
      have e2 : b * a = a * b := Nat.mul_comm b a
      have e3 : 2 ^ (f + 1) = 2 * 2 ^ f := by rw [Nat.pow_succ, Nat.mul_comm]
      omega
    · rw [Nat.gcd_comm b, ← Nat.gcd_rec, Nat.gcd_comm]
      exact h4
theorem fr_ok {post : Int32 → Prop} {T B : Int} (hB : 1 ≤ B) (hB2 : B ≤ 57624) (hT : T.natAbs ≤ 2000000000) (hg : Nat.gcd T.natAbs B.natAbs = 1) (H : post 1) : wpL_fraction post () (am_I T) (am_I B) := by
  have eB : am_I B = nI B.natAbs := by
    rw [am_nI]
    congr 1
    omega
  have go : ∀ x : Int32, x = nI T.natAbs → ∃ fu, wL_fraction_16 post (am_I B) fu x (am_I B) 0 := by
    intro x ex
    rw [ex, eB]
    refine ⟨34, ?_⟩
    refine pk_le 40 0 (fun z => absurd z (by omega)) (fun _ => pk_eq B.natAbs 0 (fun z => absurd z (by omega)) (fun z => ⟨nI_ne0 (by omega) (by omega), nm_r (pk_rem (by omega) (by omega) (by omega)) (nm_r (nI_1 0) (fr_loop (by omega) (by omega) H 32 1 B.natAbs (T.natAbs % B.natAbs) (Nat.mod_lt _ (by omega)) (by omega) ?_ ?_ (by omega)))⟩))
    · have m := Nat.mod_lt T.natAbs (show 0 < B.natAbs by omega)
      have : B.natAbs * (T.natAbs % B.natAbs) ≤ 57624 * 57624 := Nat.mul_le_mul (by omega) (by omega)
      omega
    · rw [Nat.gcd_comm B.natAbs, ← Nat.gcd_rec, Nat.gcd_comm]
      exact hg
  refine ek_if (am_Ile (a := 0) ⟨by omega, by omega⟩ ⟨by omega, by omega⟩) (fun z => go _ ?_) (fun z => nm_r (am_Ineg T) (go _ ?_))
  · rw [am_nI]
    congr 1
    omega
  · rw [am_nI]
    congr 1
    omega
end
section
theorem rd_eqT {t q t' q' : Int} (hq : 0 < q) (hq' : 0 < q') (h : t * q' = t' * q) : rd_T t q = rd_T t' q' := by
  have e := rd_eq hq hq' h
  obtain ⟨a1, a2, a3, _, _, _⟩ := rd_ok (t := t) hq
  obtain ⟨b1, b2, b3, _, _, _⟩ := rd_ok (t := t') hq'
  have gp := dv_pos t q
  have gp' := dv_pos t' q'
  generalize rd_T t q = T at *
  generalize rd_B t q = B at *
  generalize rd_T t' q' = T' at *
  generalize rd_B t' q' = B' at *
  have g1 : (0 : Int) < (dv_g t q : Int) := by omega
  have g2 : (0 : Int) < (dv_g t' q' : Int) := by omega
  generalize (dv_g t q : Int) = g at *
  generalize (dv_g t' q' : Int) = g' at *
  have z : (g * g' * B) * T = (g * g' * B) * T' := by
    rw [a1, a2, b1, b2, ← e] at h
    grind
  refine Int.eq_of_mul_eq_mul_left (fun y => ?_) z
  rcases Int.mul_eq_zero.mp y with u | u
  · rcases Int.mul_eq_zero.mp u with v | v <;> omega
  · omega
theorem rd_le {t q t' q' : Int} (hq : 0 < q) (hq' : 0 < q') (h : t * q' ≤ t' * q) : rd_T t q * rd_B t' q' ≤ rd_T t' q' * rd_B t q := by
  obtain ⟨a1, a2, a3, _, _, _⟩ := rd_ok (t := t) hq
  obtain ⟨b1, b2, b3, _, _, _⟩ := rd_ok (t := t') hq'
  have gp := dv_pos t q
  have gp' := dv_pos t' q'
  generalize rd_T t q = T at *
  generalize rd_B t q = B at *
  generalize rd_T t' q' = T' at *
  generalize rd_B t' q' = B' at *
  have g1 : (0 : Int) < (dv_g t q : Int) := by omega
  have g2 : (0 : Int) < (dv_g t' q' : Int) := by omega
  generalize (dv_g t q : Int) = g at *
  generalize (dv_g t' q' : Int) = g' at *
  rw [a1, a2, b1, b2] at h
  have e1 : g * T * (g' * B') = (g * g') * (T * B') := by grind
  have e2 : g' * T' * (g * B) = (g * g') * (T' * B) := by grind
  rw [e1, e2] at h
  exact Int.le_of_mul_le_mul_left h (Int.mul_pos g1 g2)
theorem lw_Xb {Fpr : Int32} {A1 A2 A3 : Nat → Int32} {X : Nat → Int} {q : Int} (h : so_A Fpr A1 A2 A3 X q) (hq : q ≤ 57624) {i : Nat} (hi : i < 3) : (X i).natAbs ≤ 1152480 := by
  have := h.2.1 i hi
  omega
theorem lw_amt {i : Nat} (hi : i < 3) {post : Int32 → Prop} (H : post 1) : wpX_isAmount post () (nI i) :=
  br_f (nI_pos (by omega)) (pk_le 3 i (fun z => absurd z (by omega)) (fun _ => H))
theorem lw_bestTop {post : Int32 → St1 → Prop} {Fpr Fwo Frw Ftu : Int32} {Fun : Int64} {Fco Ffw Fwc : Int32} {Fwt Fwb : Int64} {Fln Fem Fhh : Int32} {Fht Fhb : Int64} {Fhl : Int32} {Flt Flb : Int64} {Fbr Fl3 Fg3 : Int32} {A1 A2 A3 A4 A5 A6 A7 A8 A9 : Nat → Int32} {A10 : Nat → Int64} {A11 A12 : Nat → Int32} {A13 A14 A15 A16 A17 : Nat → Int64} {A18 A19 : Nat → Int32} (h : iv_ok Fpr A1 A2 A3 A4) (hX : ∃ X q, so_A Fpr A1 A2 A3 X q) (H : ∀ X q, sg_O Fpr A1 A2 A3 A4 X q → q ≤ 57624 → ∀ (wo rq tu : Int32) (un : Int64) (co fw wc : Int32) (wt wb : Int64) (ln em hh : Int32) (ht hb : Int64) (hl : Int32) (lt lb : Int64) (br l3 g3 : Int32) (b5 b6 b7 b8 b9 : Nat → Int32) (b10 : Nat → Int64) (b11 b12 : Nat → Int32) (b13 b14 b15 b16 b17 : Nat → Int64) (b18 b19 : Nat → Int32), post (am_I (rd_T (so_W A4 X 0) q)) (Fpr, wo, rq, tu, un, co, fw, wc, wt, wb, ln, em, hh, ht, hb, hl, lt, lb, br, l3, g3, A1, A2, A3, A4, b5, b6, b7, b8, b9, b10, b11, b12, b13, b14, b15, b16, b17, b18, b19)) : wpX_bestTop post (Fpr, Fwo, Frw, Ftu, Fun, Fco, Ffw, Fwc, Fwt, Fwb, Fln, Fem, Fhh, Fht, Fhb, Fhl, Flt, Flb, Fbr, Fl3, Fg3, A1, A2, A3, A4, A5, A6, A7, A8, A9, A10, A11, A12, A13, A14, A15, A16, A17, A18, A19) 0 := by
  refine br_f (by decide) (br_f (by decide) (br_f (by decide) (lw_goal h (Or.inl rfl) (fun no => ?_) (fun X q hO hq wo rq tu un co fw wc wt wb ln em hh ht hb hl lt lb br l3 g3 b5 b6 b7 b8 b9 b10 b11 b12 b13 b14 b15 b16 b17 b18 b19 g1 g2 g3' => br_f (by decide) ?_))))
  · obtain ⟨X, q, hA⟩ := hX
    exact absurd hA (no X q)
  · rw [g2, g3']
    have b := so_Wb h.2.2.2 hO.1.1 hO.1.2.1
    have := hO.1.1
    exact lw_top hO.1.1 hq (by omega) (H X q hO hq _ _ _ _ _ _ _ _ _ _ _ _ _ _ _ _ _ _ _ _ _ _ _ _ _ _ _ _ _ _ _ _ _ _ _)
theorem lw_bestBottom {post : Int32 → St1 → Prop} {Fpr Fwo Frw Ftu : Int32} {Fun : Int64} {Fco Ffw Fwc : Int32} {Fwt Fwb : Int64} {Fln Fem Fhh : Int32} {Fht Fhb : Int64} {Fhl : Int32} {Flt Flb : Int64} {Fbr Fl3 Fg3 : Int32} {A1 A2 A3 A4 A5 A6 A7 A8 A9 : Nat → Int32} {A10 : Nat → Int64} {A11 A12 : Nat → Int32} {A13 A14 A15 A16 A17 : Nat → Int64} {A18 A19 : Nat → Int32} (h : iv_ok Fpr A1 A2 A3 A4) (hX : ∃ X q, so_A Fpr A1 A2 A3 X q) (H : ∀ X q, sg_O Fpr A1 A2 A3 A4 X q → q ≤ 57624 → ∀ (wo rq tu : Int32) (un : Int64) (co fw wc : Int32) (wt wb : Int64) (ln em hh : Int32) (ht hb : Int64) (hl : Int32) (lt lb : Int64) (br l3 g3 : Int32) (b5 b6 b7 b8 b9 : Nat → Int32) (b10 : Nat → Int64) (b11 b12 : Nat → Int32) (b13 b14 b15 b16 b17 : Nat → Int64) (b18 b19 : Nat → Int32), post (am_I (rd_B (so_W A4 X 0) q)) (Fpr, wo, rq, tu, un, co, fw, wc, wt, wb, ln, em, hh, ht, hb, hl, lt, lb, br, l3, g3, A1, A2, A3, A4, b5, b6, b7, b8, b9, b10, b11, b12, b13, b14, b15, b16, b17, b18, b19)) : wpX_bestBottom post (Fpr, Fwo, Frw, Ftu, Fun, Fco, Ffw, Fwc, Fwt, Fwb, Fln, Fem, Fhh, Fht, Fhb, Fhl, Flt, Flb, Fbr, Fl3, Fg3, A1, A2, A3, A4, A5, A6, A7, A8, A9, A10, A11, A12, A13, A14, A15, A16, A17, A18, A19) 0 := by
  refine br_f (by decide) (br_f (by decide) (br_f (by decide) (lw_goal h (Or.inl rfl) (fun no => ?_) (fun X q hO hq wo rq tu un co fw wc wt wb ln em hh ht hb hl lt lb br l3 g3 b5 b6 b7 b8 b9 b10 b11 b12 b13 b14 b15 b16 b17 b18 b19 g1 g2 g3' => br_f (by decide) ?_))))
  · obtain ⟨X, q, hA⟩ := hX
    exact absurd hA (no X q)
  · rw [g2, g3']
    have b := so_Wb h.2.2.2 hO.1.1 hO.1.2.1
    have := hO.1.1
    exact lw_bot hO.1.1 hq (by omega) (H X q hO hq _ _ _ _ _ _ _ _ _ _ _ _ _ _ _ _ _ _ _ _ _ _ _ _ _ _ _ _ _ _ _ _ _ _ _)
theorem lw_pointTop {post : Int32 → St1 → Prop} {Fpr Fwo Frw Ftu : Int32} {Fun : Int64} {Fco Ffw Fwc : Int32} {Fwt Fwb : Int64} {Fln Fem Fhh : Int32} {Fht Fhb : Int64} {Fhl : Int32} {Flt Flb : Int64} {Fbr Fl3 Fg3 : Int32} {A1 A2 A3 A4 A5 A6 A7 A8 A9 : Nat → Int32} {A10 : Nat → Int64} {A11 A12 : Nat → Int32} {A13 A14 A15 A16 A17 : Nat → Int64} {A18 A19 : Nat → Int32} {i : Nat} (hi : i < 3) (h : iv_ok Fpr A1 A2 A3 A4) (hX : ∃ X q, so_A Fpr A1 A2 A3 X q) (H : ∀ X q, sg_O Fpr A1 A2 A3 A4 X q → q ≤ 57624 → ∀ (wo rq tu : Int32) (un : Int64) (co fw wc : Int32) (wt wb : Int64) (ln em hh : Int32) (ht hb : Int64) (hl : Int32) (lt lb : Int64) (br l3 g3 : Int32) (b5 b6 b7 b8 b9 : Nat → Int32) (b10 : Nat → Int64) (b11 b12 : Nat → Int32) (b13 b14 b15 b16 b17 : Nat → Int64) (b18 b19 : Nat → Int32), post (am_I (rd_T (X i) q)) (Fpr, wo, rq, tu, un, co, fw, wc, wt, wb, ln, em, hh, ht, hb, hl, lt, lb, br, l3, g3, A1, A2, A3, A4, b5, b6, b7, b8, b9, b10, b11, b12, b13, b14, b15, b16, b17, b18, b19)) : wpX_pointTop post (Fpr, Fwo, Frw, Ftu, Fun, Fco, Ffw, Fwc, Fwt, Fwb, Fln, Fem, Fhh, Fht, Fhb, Fhl, Flt, Flb, Fbr, Fl3, Fg3, A1, A2, A3, A4, A5, A6, A7, A8, A9, A10, A11, A12, A13, A14, A15, A16, A17, A18, A19) (nI i) := by
  unfold wpX_pointTop
  refine lw_amt hi (br_f (by decide) (lw_goal h (Or.inl rfl) (fun no => ?_) (fun X q hO hq wo rq tu un co fw wc wt wb ln em hh ht hb hl lt lb br l3 g3 b5 b6 b7 b8 b9 b10 b11 b12 b13 b14 b15 b16 b17 b18 b19 g1 g2 g3' => br_f (by decide) ⟨pk_in i 3 hi, ?_⟩)))
  · obtain ⟨X, q, hA⟩ := hX
    exact absurd hA (no X q)
  · rw [nI_clamp (show i < 2 ^ 31 by omega), g1 i hi, g3']
    have := lw_Xb hO.1 hq hi
    exact lw_top hO.1.1 hq (by omega) (H X q hO hq _ _ _ _ _ _ _ _ _ _ _ _ _ _ _ _ _ _ _ _ _ _ _ _ _ _ _ _ _ _ _ _ _ _ _)
theorem lw_pointBottom {post : Int32 → St1 → Prop} {Fpr Fwo Frw Ftu : Int32} {Fun : Int64} {Fco Ffw Fwc : Int32} {Fwt Fwb : Int64} {Fln Fem Fhh : Int32} {Fht Fhb : Int64} {Fhl : Int32} {Flt Flb : Int64} {Fbr Fl3 Fg3 : Int32} {A1 A2 A3 A4 A5 A6 A7 A8 A9 : Nat → Int32} {A10 : Nat → Int64} {A11 A12 : Nat → Int32} {A13 A14 A15 A16 A17 : Nat → Int64} {A18 A19 : Nat → Int32} {i : Nat} (hi : i < 3) (h : iv_ok Fpr A1 A2 A3 A4) (H0 : (∀ X q, ¬ so_A Fpr A1 A2 A3 X q) → ∀ (wo rq tu : Int32) (un : Int64) (co fw wc : Int32) (wt wb : Int64) (ln em hh : Int32) (ht hb : Int64) (hl : Int32) (lt lb : Int64) (br l3 g3 : Int32) (b5 b6 b7 b8 b9 : Nat → Int32) (b10 : Nat → Int64) (b11 b12 : Nat → Int32) (b13 b14 b15 b16 b17 : Nat → Int64) (b18 b19 : Nat → Int32), post (-30000000) (Fpr, wo, rq, tu, un, co, fw, wc, wt, wb, ln, em, hh, ht, hb, hl, lt, lb, br, l3, g3, A1, A2, A3, A4, b5, b6, b7, b8, b9, b10, b11, b12, b13, b14, b15, b16, b17, b18, b19)) (H : ∀ X q, sg_O Fpr A1 A2 A3 A4 X q → q ≤ 57624 → ∀ (wo rq tu : Int32) (un : Int64) (co fw wc : Int32) (wt wb : Int64) (ln em hh : Int32) (ht hb : Int64) (hl : Int32) (lt lb : Int64) (br l3 g3 : Int32) (b5 b6 b7 b8 b9 : Nat → Int32) (b10 : Nat → Int64) (b11 b12 : Nat → Int32) (b13 b14 b15 b16 b17 : Nat → Int64) (b18 b19 : Nat → Int32), post (am_I (rd_B (X i) q)) (Fpr, wo, rq, tu, un, co, fw, wc, wt, wb, ln, em, hh, ht, hb, hl, lt, lb, br, l3, g3, A1, A2, A3, A4, b5, b6, b7, b8, b9, b10, b11, b12, b13, b14, b15, b16, b17, b18, b19)) : wpX_pointBottom post (Fpr, Fwo, Frw, Ftu, Fun, Fco, Ffw, Fwc, Fwt, Fwb, Fln, Fem, Fhh, Fht, Fhb, Fhl, Flt, Flb, Fbr, Fl3, Fg3, A1, A2, A3, A4, A5, A6, A7, A8, A9, A10, A11, A12, A13, A14, A15, A16, A17, A18, A19) (nI i) := by
  unfold wpX_pointBottom
  refine lw_amt hi (br_f (by decide) (lw_goal h (Or.inr rfl) (fun no wo rq tu un co fw wc wt wb ln em hh ht hb hl lt lb br l3 g3 b5 b6 b7 b8 b9 b10 b11 b12 b13 b14 b15 b16 b17 b18 b19 => br_t rfl (H0 no wo rq tu un co fw wc wt wb ln em hh ht hb hl lt lb br l3 g3 b5 b6 b7 b8 b9 b10 b11 b12 b13 b14 b15 b16 b17 b18 b19)) (fun X q hO hq wo rq tu un co fw wc wt wb ln em hh ht hb hl lt lb br l3 g3 b5 b6 b7 b8 b9 b10 b11 b12 b13 b14 b15 b16 b17 b18 b19 g1 g2 g3' => br_f (by decide) ⟨pk_in i 3 hi, ?_⟩)))
  rw [nI_clamp (show i < 2 ^ 31 by omega), g1 i hi, g3']
  have := lw_Xb hO.1 hq hi
  exact lw_bot hO.1.1 hq (by omega) (H X q hO hq _ _ _ _ _ _ _ _ _ _ _ _ _ _ _ _ _ _ _ _ _ _ _ _ _ _ _ _ _ _ _ _ _ _ _)
theorem wk_askAmount {post : St1 → Prop} {Fpr Fwo Frw Ftu : Int32} {Fun : Int64} {Fco Ffw Fwc : Int32} {Fwt Fwb : Int64} {Fln Fem Fhh : Int32} {Fht Fhb : Int64} {Fhl : Int32} {Flt Flb : Int64} {Fbr Fl3 Fg3 : Int32} {A1 A2 A3 A4 A5 A6 A7 A8 A9 : Nat → Int32} {A10 : Nat → Int64} {A11 A12 : Nat → Int32} {A13 A14 A15 A16 A17 : Nat → Int64} {A18 A19 : Nat → Int32} {i : Nat} {sg : Int} (hi : i < 3) (hs : sg = 1 ∨ sg = -1) (H : ∀ b7 : Nat → Int32, (∀ j, j < 3 → b7 j = if j = i then am_I sg else 0) → post (Fpr, Fwo, Frw, Ftu, Fun, Fco, Ffw, Fwc, Fwt, Fwb, Fln, Fem, Fhh, Fht, Fhb, Fhl, Flt, Flb, Fbr, Fl3, Fg3, A1, A2, A3, A4, A5, A6, b7, A8, A9, A10, A11, A12, A13, A14, A15, A16, A17, A18, A19)) : wpX_askAmount post (Fpr, Fwo, Frw, Ftu, Fun, Fco, Ffw, Fwc, Fwt, Fwb, Fln, Fem, Fhh, Fht, Fhb, Fhl, Flt, Flb, Fbr, Fl3, Fg3, A1, A2, A3, A4, A5, A6, A7, A8, A9, A10, A11, A12, A13, A14, A15, A16, A17, A18, A19) (nI i) (am_I sg) := by
  refine pk_loop (fun n j (s : Nat → Int32) => wX_askAmount_2 post (nI i) (am_I sg) Fpr Fwo Frw Ftu Fun Fco Ffw Fwc Fwt Fwb Fln Fem Fhh Fht Fhb Fhl Flt Flb Fbr Fl3 Fg3 n (nI j) A1 A2 A3 A4 A5 A6 s A8 A9 A10 A11 A12 A13 A14 A15 A16 A17 A18 A19) (fun j s => ∀ x, x < j → s x = if x = i then am_I sg else 0) 3 0 A7 (by omega) (fun j hj => absurd hj (by omega)) ?_ ?_
  · intro n s h
    exact pk_le 3 3 (fun _ => H s h) (fun z => absurd z (by omega))
  · intro n j s hj h hk
    have put : ∀ v : Int32, v = (if j = i then am_I sg else 0) → wX_askAmount_2 post (nI i) (am_I sg) Fpr Fwo Frw Ftu Fun Fco Ffw Fwc Fwt Fwb Fln Fem Fhh Fht Fhb Fhl Flt Flb Fbr Fl3 Fg3 n (nI (j + 1)) A1 A2 A3 A4 A5 A6 (upd s j v) A8 A9 A10 A11 A12 A13 A14 A15 A16 A17 A18 A19 := by
      intro v ev
      refine hk _ (fun x hx => ?_)
      by_cases g : x = j
      · rw [g, pk_us, ev]
      · rw [pk_un g]
        exact h x (by omega)
    have cj : (nI j).toNatClampNeg = j := nI_clamp (by omega)
    refine pk_le 3 j (fun z => absurd z (by omega)) (fun _ => pk_eq j i (fun z => ⟨pk_in j 3 hj, nm_r (by rw [cj]) (nm_r (nI_1 j) (put _ ?_))⟩) (fun z => ⟨pk_in j 3 hj, nm_r (by rw [cj]) (nm_r (nI_1 j) (put _ ?_))⟩))
    · rw [if_pos z]
      rcases hs with e | e <;> rw [e] <;> exact am_I8 (by omega) (by omega)
    · rw [if_neg z]
      decide
/-- how far an amount reaches -/
def sg_R (Fpr : Int32) (A1 A2 A3 : Nat → Int32) (i : Nat) (sg : Int) (X : Nat → Int) (q : Int) : Prop := so_A Fpr A1 A2 A3 X q ∧ q ≤ 57624 ∧ ∀ X' q', so_A Fpr A1 A2 A3 X' q' → sg * (X' i * q) ≤ sg * (X i * q')
theorem lw_reach {post : Int32 → St1 → Prop} {Fpr Fwo Frw Ftu : Int32} {Fun : Int64} {Fco Ffw Fwc : Int32} {Fwt Fwb : Int64} {Fln Fem Fhh : Int32} {Fht Fhb : Int64} {Fhl : Int32} {Flt Flb : Int64} {Fbr Fl3 Fg3 : Int32} {A1 A2 A3 A4 A5 A6 A7 A8 A9 : Nat → Int32} {A10 : Nat → Int64} {A11 A12 : Nat → Int32} {A13 A14 A15 A16 A17 : Nat → Int64} {A18 A19 : Nat → Int32} {i : Nat} {sg : Int} {p : Int32} (hi : i < 3) (hp : (p = 0 ∧ sg = -1) ∨ (¬ p = 0 ∧ sg = 1)) (h : iv_ok Fpr A1 A2 A3 A4) (hX : ∃ X q, so_A Fpr A1 A2 A3 X q)
    (H : ∀ X q, sg_R Fpr A1 A2 A3 i sg X q → ∀ (wo rq tu : Int32) (un : Int64) (co fw wc : Int32) (wt wb : Int64) (ln em hh : Int32) (ht hb : Int64) (hl : Int32) (lt lb : Int64) (br l3 g3 : Int32) (b5 b6 b7 b8 b9 : Nat → Int32) (b10 : Nat → Int64) (b11 b12 : Nat → Int32) (b13 b14 b15 b16 b17 : Nat → Int64) (b18 b19 : Nat → Int32), b13 i = am_L (X i) → wb = am_L q → post 1 (Fpr, wo, rq, tu, un, co, fw, wc, wt, wb, ln, em, hh, ht, hb, hl, lt, lb, br, l3, g3, A1, A2, A3, A4, b5, b6, b7, b8, b9, b10, b11, b12, b13, b14, b15, b16, b17, b18, b19)) : wpX_solveReach post (Fpr, Fwo, Frw, Ftu, Fun, Fco, Ffw, Fwc, Fwt, Fwb, Fln, Fem, Fhh, Fht, Fhb, Fhl, Flt, Flb, Fbr, Fl3, Fg3, A1, A2, A3, A4, A5, A6, A7, A8, A9, A10, A11, A12, A13, A14, A15, A16, A17, A18, A19) (nI i) p := by
  unfold wpX_solveReach
  obtain ⟨_, h2, h3, h4⟩ := id h
  refine wk_askWhole (fun b5 b6 hbb => ?_)
  have go : ∀ z : Int32, z = am_I sg → wX_solveReach_15 post z (nI i) Fpr (-1) Frw Ftu Fun Fco Ffw Fwc Fwt Fwb Fln Fem Fhh Fht Fhb Fhl Flt Flb Fbr Fl3 Fg3 A1 A2 A3 A4 b5 b6 A7 A8 A9 A10 A11 A12 A13 A14 A15 A16 A17 A18 A19 := by
    intro z ez
    rw [ez]
    have hs : sg = 1 ∨ sg = -1 := by omega
    unfold wX_solveReach_15
    refine wk_askAmount hi hs (fun b7 h7 => ?_)
    have v7 : ∀ j, j < 3 → (b7 j).toInt = if j = i then sg else 0 := by
      intro j hj
      rw [h7 j hj]
      split
      · exact am_Iint ⟨by omega, by omega⟩
      · rfl
    have a7 : ∀ j, j < 3 → (b7 j).toInt.natAbs ≤ 7 := by
      intro j hj
      rw [v7 j hj]
      split <;> omega
    refine br_f (by decide) (br_t rfl (sw_ok h2 h3 (so_bx hbb) a7 (fun no => ?_) (fun X q hO hq rq tu un co fw wc wt wb b8 b9 b10 b11 b12 b13 g1 g2 g3 => ⟨rfl, ⟨rfl, H X q ⟨(so_AF hbb X q).mp hO.1, hq, fun X' q' hA => ?_⟩ _ _ _ _ _ _ _ _ _ _ _ _ _ _ _ _ _ _ _ _ _ _ _ _ _ _ _ _ _ _ _ _ _ _ _ (g1 i hi) g3⟩⟩)))
    · obtain ⟨X, q, hA⟩ := hX
      exact absurd ((so_AF hbb X q).mpr hA) (no X q)
    · have o := hO.2 X' q' ((so_AF hbb X' q').mpr hA)
      have w : ∀ Y : Nat → Int, so_W b7 Y 0 = sg * Y i := by
        intro Y
        unfold so_W fm_nm
        rw [if_pos rfl, if_pos rfl, if_pos rfl, v7 0 (by decide), v7 1 (by decide), v7 2 (by decide)]
        have hi' : i = 0 ∨ i = 1 ∨ i = 2 := by omega
        rcases hi' with rfl | rfl | rfl <;> simp
      unfold lx_N at o
      try dsimp only at o
      rw [w, w] at o
      have e1 : sg * X i * q' = sg * (X i * q') := by grind
      have e2 : sg * X' i * q = sg * (X' i * q) := by grind
      omega
  rcases hp with ⟨e, es⟩ | ⟨e, es⟩
  · exact br_t e (go _ (by rw [es]; rfl))
  · exact br_f e (go _ (by rw [es]; rfl))
theorem lw_reachTop {post : Int32 → St1 → Prop} {Fpr Fwo Frw Ftu : Int32} {Fun : Int64} {Fco Ffw Fwc : Int32} {Fwt Fwb : Int64} {Fln Fem Fhh : Int32} {Fht Fhb : Int64} {Fhl : Int32} {Flt Flb : Int64} {Fbr Fl3 Fg3 : Int32} {A1 A2 A3 A4 A5 A6 A7 A8 A9 : Nat → Int32} {A10 : Nat → Int64} {A11 A12 : Nat → Int32} {A13 A14 A15 A16 A17 : Nat → Int64} {A18 A19 : Nat → Int32} {i : Nat} {sg : Int} {p : Int32} (hi : i < 3) (hp : (p = 0 ∧ sg = -1) ∨ (p = 1 ∧ sg = 1)) (h : iv_ok Fpr A1 A2 A3 A4) (hX : ∃ X q, so_A Fpr A1 A2 A3 X q) (H : ∀ X q, sg_R Fpr A1 A2 A3 i sg X q → ∀ (wo rq tu : Int32) (un : Int64) (co fw wc : Int32) (wt wb : Int64) (ln em hh : Int32) (ht hb : Int64) (hl : Int32) (lt lb : Int64) (br l3 g3 : Int32) (b5 b6 b7 b8 b9 : Nat → Int32) (b10 : Nat → Int64) (b11 b12 : Nat → Int32) (b13 b14 b15 b16 b17 : Nat → Int64) (b18 b19 : Nat → Int32), post (am_I (rd_T (X i) q)) (Fpr, wo, rq, tu, un, co, fw, wc, wt, wb, ln, em, hh, ht, hb, hl, lt, lb, br, l3, g3, A1, A2, A3, A4, b5, b6, b7, b8, b9, b10, b11, b12, b13, b14, b15, b16, b17, b18, b19)) : wpX_reachTop post (Fpr, Fwo, Frw, Ftu, Fun, Fco, Ffw, Fwc, Fwt, Fwb, Fln, Fem, Fhh, Fht, Fhb, Fhl, Flt, Flb, Fbr, Fl3, Fg3, A1, A2, A3, A4, A5, A6, A7, A8, A9, A10, A11, A12, A13, A14, A15, A16, A17, A18, A19) (nI i) p := by
  unfold wpX_reachTop
  have hp' : (p = 0 ∧ sg = -1) ∨ (¬ p = 0 ∧ sg = 1) := by
    rcases hp with q | ⟨e, q⟩
    · exact Or.inl q
    · exact Or.inr ⟨by rw [e]; decide, q⟩
  refine lw_amt hi (br_f (by decide) (br_f ?_ (br_t ?_ (lw_reach hi hp' h hX (fun X q hR wo rq tu un co fw wc wt wb ln em hh ht hb hl lt lb br l3 g3 b5 b6 b7 b8 b9 b10 b11 b12 b13 b14 b15 b16 b17 b18 b19 g1 g3' => br_f (by decide) ⟨pk_in i 3 hi, ?_⟩)))))
  · rcases hp with ⟨e, _⟩ | ⟨e, _⟩ <;> rw [e] <;> decide
  · rcases hp with ⟨e, _⟩ | ⟨e, _⟩ <;> rw [e] <;> decide
  · rw [nI_clamp (show i < 2 ^ 31 by omega), g1, g3']
    have := lw_Xb hR.1 hR.2.1 hi
    exact lw_top hR.1.1 hR.2.1 (by omega) (H X q hR _ _ _ _ _ _ _ _ _ _ _ _ _ _ _ _ _ _ _ _ _ _ _ _ _ _ _ _ _ _ _ _ _ _ _)
theorem lw_reachBottom {post : Int32 → St1 → Prop} {Fpr Fwo Frw Ftu : Int32} {Fun : Int64} {Fco Ffw Fwc : Int32} {Fwt Fwb : Int64} {Fln Fem Fhh : Int32} {Fht Fhb : Int64} {Fhl : Int32} {Flt Flb : Int64} {Fbr Fl3 Fg3 : Int32} {A1 A2 A3 A4 A5 A6 A7 A8 A9 : Nat → Int32} {A10 : Nat → Int64} {A11 A12 : Nat → Int32} {A13 A14 A15 A16 A17 : Nat → Int64} {A18 A19 : Nat → Int32} {i : Nat} {sg : Int} {p : Int32} (hi : i < 3) (hp : (p = 0 ∧ sg = -1) ∨ (p = 1 ∧ sg = 1)) (h : iv_ok Fpr A1 A2 A3 A4) (hX : ∃ X q, so_A Fpr A1 A2 A3 X q) (H : ∀ X q, sg_R Fpr A1 A2 A3 i sg X q → ∀ (wo rq tu : Int32) (un : Int64) (co fw wc : Int32) (wt wb : Int64) (ln em hh : Int32) (ht hb : Int64) (hl : Int32) (lt lb : Int64) (br l3 g3 : Int32) (b5 b6 b7 b8 b9 : Nat → Int32) (b10 : Nat → Int64) (b11 b12 : Nat → Int32) (b13 b14 b15 b16 b17 : Nat → Int64) (b18 b19 : Nat → Int32), post (am_I (rd_B (X i) q)) (Fpr, wo, rq, tu, un, co, fw, wc, wt, wb, ln, em, hh, ht, hb, hl, lt, lb, br, l3, g3, A1, A2, A3, A4, b5, b6, b7, b8, b9, b10, b11, b12, b13, b14, b15, b16, b17, b18, b19)) : wpX_reachBottom post (Fpr, Fwo, Frw, Ftu, Fun, Fco, Ffw, Fwc, Fwt, Fwb, Fln, Fem, Fhh, Fht, Fhb, Fhl, Flt, Flb, Fbr, Fl3, Fg3, A1, A2, A3, A4, A5, A6, A7, A8, A9, A10, A11, A12, A13, A14, A15, A16, A17, A18, A19) (nI i) p := by
  unfold wpX_reachBottom
  have hp' : (p = 0 ∧ sg = -1) ∨ (¬ p = 0 ∧ sg = 1) := by
    rcases hp with q | ⟨e, q⟩
    · exact Or.inl q
    · exact Or.inr ⟨by rw [e]; decide, q⟩
  refine lw_amt hi (br_f (by decide) (br_f ?_ (br_t ?_ (lw_reach hi hp' h hX (fun X q hR wo rq tu un co fw wc wt wb ln em hh ht hb hl lt lb br l3 g3 b5 b6 b7 b8 b9 b10 b11 b12 b13 b14 b15 b16 b17 b18 b19 g1 g3' => br_f (by decide) ⟨pk_in i 3 hi, ?_⟩)))))
  · rcases hp with ⟨e, _⟩ | ⟨e, _⟩ <;> rw [e] <;> decide
  · rcases hp with ⟨e, _⟩ | ⟨e, _⟩ <;> rw [e] <;> decide
  · rw [nI_clamp (show i < 2 ^ 31 by omega), g1, g3']
    have := lw_Xb hR.1 hR.2.1 hi
    exact lw_bot hR.1.1 hR.2.1 (by omega) (H X q hR _ _ _ _ _ _ _ _ _ _ _ _ _ _ _ _ _ _ _ _ _ _ _ _ _ _ _ _ _ _ _ _ _ _ _)
theorem sg_Runi {Fpr : Int32} {A1 A2 A3 : Nat → Int32} {i : Nat} {sg : Int} (hs : sg = 1 ∨ sg = -1) {X X' : Nat → Int} {q q' : Int} (h : sg_R Fpr A1 A2 A3 i sg X q) (h' : sg_R Fpr A1 A2 A3 i sg X' q') : X i * q' = X' i * q := by
  have a := h.2.2 X' q' h'.1
  have b := h'.2.2 X q h.1
  rcases hs with e | e <;> rw [e] at a b <;> omega
theorem bt_tight : ∀ P : Fin 32, ∀ s : Fin 32, ∀ k : Fin 5, nI s.val &&& (nI P.val ^^^ (-1)) = 0 → ¬ ((nI P.val >>> (nI k.val &&& 31)) &&& 1) = 0 → (nI s.val ||| ((1 : Int32) <<< (nI k.val &&& 31))) = nI (s.val ||| 2 ^ k.val) ∧ s.val ||| 2 ^ k.val < 32 ∧ nI (s.val ||| 2 ^ k.val) &&& (nI P.val ^^^ (-1)) = 0 := by decide +kernel
theorem lw_tight {post : Int32 → St1 → Prop} {Fpr Fwo Frw Ftu : Int32} {Fun : Int64} {Fco Ffw Fwc : Int32} {Fwt Fwb : Int64} {Fln Fem Fhh : Int32} {Fht Fhb : Int64} {Fhl : Int32} {Flt Flb : Int64} {Fbr Fl3 Fg3 : Int32} {A1 A2 A3 A4 A5 A6 A7 A8 A9 : Nat → Int32} {A10 : Nat → Int64} {A11 A12 : Nat → Int32} {A13 A14 A15 A16 A17 : Nat → Int64} {A18 A19 : Nat → Int32} (h : iv_ok Fpr A1 A2 A3 A4) (H0 : (∀ X q, ¬ so_A Fpr A1 A2 A3 X q) → ∀ (wo rq tu : Int32) (un : Int64) (co fw wc : Int32) (wt wb : Int64) (ln em hh : Int32) (ht hb : Int64) (hl : Int32) (lt lb : Int64) (br l3 g3 : Int32) (b5 b6 b7 b8 b9 : Nat → Int32) (b10 : Nat → Int64) (b11 b12 : Nat → Int32) (b13 b14 b15 b16 b17 : Nat → Int64) (b18 b19 : Nat → Int32), post (-30000000) (Fpr, wo, rq, tu, un, co, fw, wc, wt, wb, ln, em, hh, ht, hb, hl, lt, lb, br, l3, g3, A1, A2, A3, A4, b5, b6, b7, b8, b9, b10, b11, b12, b13, b14, b15, b16, b17, b18, b19)) (H : (∃ X q, so_A Fpr A1 A2 A3 X q) → ∀ s : Nat, s < 32 → nI s &&& (Fpr ^^^ (-1)) = 0 → ∀ (wo rq tu : Int32) (un : Int64) (co fw wc : Int32) (wt wb : Int64) (ln em hh : Int32) (ht hb : Int64) (hl : Int32) (lt lb : Int64) (br l3 g3 : Int32) (b5 b6 b7 b8 b9 : Nat → Int32) (b10 : Nat → Int64) (b11 b12 : Nat → Int32) (b13 b14 b15 b16 b17 : Nat → Int64) (b18 b19 : Nat → Int32), post (nI s) (Fpr, wo, rq, tu, un, co, fw, wc, wt, wb, ln, em, hh, ht, hb, hl, lt, lb, br, l3, g3, A1, A2, A3, A4, b5, b6, b7, b8, b9, b10, b11, b12, b13, b14, b15, b16, b17, b18, b19)) : wpX_tight post (Fpr, Fwo, Frw, Ftu, Fun, Fco, Ffw, Fwc, Fwt, Fwb, Fln, Fem, Fhh, Fht, Fhb, Fhl, Flt, Flb, Fbr, Fl3, Fg3, A1, A2, A3, A4, A5, A6, A7, A8, A9, A10, A11, A12, A13, A14, A15, A16, A17, A18, A19) := by
  unfold wpX_tight
  obtain ⟨⟨P, hP, eP⟩, h2, h3, h4⟩ := id h
  refine lw_goal h (Or.inl rfl) (fun no wo rq tu un co fw wc wt wb ln em hh ht hb hl lt lb br l3 g3 b5 b6 b7 b8 b9 b10 b11 b12 b13 b14 b15 b16 b17 b18 b19 => br_t rfl (H0 no wo rq tu un co fw wc wt wb ln em hh ht hb hl lt lb br l3 g3 b5 b6 b7 b8 b9 b10 b11 b12 b13 b14 b15 b16 b17 b18 b19)) (fun X q hO hq wo rq tu un co fw wc wt wb ln em hh ht hb hl lt lb br l3 g3 b5 b6 b7 b8 b9 b10 b11 b12 b13 b14 b15 b16 b17 b18 b19 g1 g2 g3' => br_f (by decide) ?_)
  refine pk_loop (fun n k (s : Nat) => wX_tight_15 post Fpr wo rq tu un co fw wc wt wb ln em hh ht hb hl lt lb br l3 g3 A1 A2 A3 A4 b5 b6 b7 b8 b9 b10 b11 b12 b13 b14 b15 b16 b17 b18 b19 n (nI s) (nI k)) (fun k s => s < 32 ∧ nI s &&& (Fpr ^^^ (-1)) = 0) 5 0 0 (by omega) ⟨by omega, ?_⟩ ?_ ?_
  · rw [nI_0]
    simp
  · intro n s ⟨h5, h6⟩
    exact pk_le 5 5 (fun _ => H ⟨X, q, hO.1⟩ s h5 h6 wo rq tu un co fw wc wt wb ln em hh ht hb hl lt lb br l3 g3 b5 b6 b7 b8 b9 b10 b11 b12 b13 b14 b15 b16 b17 b18 b19) (fun z => absurd z (by omega))
  · intro n k s hk ⟨h5, h6⟩ hn
    have ck : (nI k).toNatClampNeg = k := nI_clamp (by omega)
    have keep : ∀ x : Int32, x = nI s → wX_tight_15 post Fpr wo rq tu un co fw wc wt wb ln em hh ht hb hl lt lb br l3 g3 A1 A2 A3 A4 b5 b6 b7 b8 b9 b10 b11 b12 b13 b14 b15 b16 b17 b18 b19 n x (nI (k + 1)) := by
      intro x ex
      rw [ex]
      exact hn s ⟨h5, h6⟩
    refine pk_le 5 k (fun z => absurd z (by omega)) (fun _ => ?_)
    refine pk_loop (fun n' i (y : Int64) => wX_tight_25 post (wX_tight_15 post Fpr wo rq tu un co fw wc wt wb ln em hh ht hb hl lt lb br l3 g3 A1 A2 A3 A4 b5 b6 b7 b8 b9 b10 b11 b12 b13 b14 b15 b16 b17 b18 b19 n) (nI s) (nI k) Fpr wo rq tu un co fw wc wt wb ln em hh ht hb hl lt lb br l3 g3 A1 A2 A3 A4 b5 b6 b7 b8 b9 b10 b11 b12 b13 b14 b15 b16 b17 b18 b19 n' y (nI i)) (fun _ _ => True) 3 0 0 (by omega) trivial ?_ ?_
    · intro n' y _
      refine pk_le 3 3 (fun _ => wk_has hk (fun no => br_t rfl (nm_r (e' := nI s) (by simp) (nm_r (nI_1 k) (keep _ rfl)))) (fun yes => br_f (by decide) ⟨pk_in k 5 hk, br_c (fun _ => ?_) (fun _ => nm_r (e' := nI s) (by simp) (nm_r (nI_1 k) (keep _ rfl)))⟩)) (fun z => absurd z (by omega))
      have b : ¬ ((nI P >>> (nI k &&& 31)) &&& 1) = 0 := by
        unfold hs_b at yes
        rw [eP] at yes
        exact yes
      rw [eP] at h6
      obtain ⟨t1, t2, t3⟩ := bt_tight ⟨P, hP⟩ ⟨s, h5⟩ ⟨k, hk⟩ h6 b
      try dsimp only at t1 t2 t3
      refine nm_r t1 (nm_r (nI_1 k) (hn (s ||| 2 ^ k) ⟨t2, ?_⟩))
      rw [eP]
      exact t3
    · intro n' i y hi _ hk'
      exact pk_le 3 i (fun z => absurd z (by omega)) (fun _ => ⟨rw_in (by omega) (by omega), ⟨pk_in i 3 hi, nm_e (nm_r (nI_1 i) (hk' _ trivial))⟩⟩)
theorem lw_shown {post : Int32 → St1 → Prop} {Fpr Fwo Frw Ftu : Int32} {Fun : Int64} {Fco Ffw Fwc : Int32} {Fwt Fwb : Int64} {Fln Fem Fhh : Int32} {Fht Fhb : Int64} {Fhl : Int32} {Flt Flb : Int64} {Fbr Fl3 Fg3 : Int32} {A1 A2 A3 A4 A5 A6 A7 A8 A9 : Nat → Int32} {A10 : Nat → Int64} {A11 A12 : Nat → Int32} {A13 A14 A15 A16 A17 : Nat → Int64} {A18 A19 : Nat → Int32} (h : iv_ok Fpr A1 A2 A3 A4) (hX : ∃ X q, so_A Fpr A1 A2 A3 X q) (H : ∀ (wo rq tu : Int32) (un : Int64) (co fw wc : Int32) (wt wb : Int64) (ln em hh : Int32) (ht hb : Int64) (hl : Int32) (lt lb : Int64) (br l3 g3 : Int32) (b5 b6 b7 b8 b9 : Nat → Int32) (b10 : Nat → Int64) (b11 b12 : Nat → Int32) (b13 b14 b15 b16 b17 : Nat → Int64) (b18 b19 : Nat → Int32), post 1 (Fpr, wo, rq, tu, un, co, fw, wc, wt, wb, ln, em, hh, ht, hb, hl, lt, lb, br, l3, g3, A1, A2, A3, A4, b5, b6, b7, b8, b9, b10, b11, b12, b13, b14, b15, b16, b17, b18, b19)) : wpL_shown post (Fpr, Fwo, Frw, Ftu, Fun, Fco, Ffw, Fwc, Fwt, Fwb, Fln, Fem, Fhh, Fht, Fhb, Fhl, Flt, Flb, Fbr, Fl3, Fg3, A1, A2, A3, A4, A5, A6, A7, A8, A9, A10, A11, A12, A13, A14, A15, A16, A17, A18, A19) := by
  unfold wpL_shown
  have loop : ∀ (f i : Nat) (wo rq tu : Int32) (un : Int64) (co fw wc : Int32) (wt wb : Int64) (ln em hh : Int32) (ht hb : Int64) (hl : Int32) (lt lb : Int64) (br l3 g3 : Int32) (b5 b6 b7 b8 b9 : Nat → Int32) (b10 : Nat → Int64) (b11 b12 : Nat → Int32) (b13 b14 b15 b16 b17 : Nat → Int64) (b18 b19 : Nat → Int32), i + f = 3 → wL_shown_16 post (f + 1) 1 (nI i) Fpr wo rq tu un co fw wc wt wb ln em hh ht hb hl lt lb br l3 g3 A1 A2 A3 A4 b5 b6 b7 b8 b9 b10 b11 b12 b13 b14 b15 b16 b17 b18 b19 := by
    intro f
    induction f with
    | zero =>
      intro i wo rq tu un co fw wc wt wb ln em hh ht hb hl lt lb br l3 g3 b5 b6 b7 b8 b9 b10 b11 b12 b13 b14 b15 b16 b17 b18 b19 hf
      rw [show i = 3 by omega]
      refine pk_le 3 3 (fun _ => lw_tight h (fun no => ?_) (fun _ s hs h6 wo rq tu un co fw wc wt wb ln em hh ht hb hl lt lb br l3 g3 b5 b6 b7 b8 b9 b10 b11 b12 b13 b14 b15 b16 b17 b18 b19 => br_f (by decide) (br_f (nI_pos (by omega)) (br_t h6 (H wo rq tu un co fw wc wt wb ln em hh ht hb hl lt lb br l3 g3 b5 b6 b7 b8 b9 b10 b11 b12 b13 b14 b15 b16 b17 b18 b19))))) (fun z => absurd z (by omega))
      obtain ⟨X, q, hA⟩ := hX
      exact absurd hA (no X q)
    | succ f ih =>
      intro i wo rq tu un co fw wc wt wb ln em hh ht hb hl lt lb br l3 g3 b5 b6 b7 b8 b9 b10 b11 b12 b13 b14 b15 b16 b17 b18 b19 hf
      have hi : i < 3 := by omega
      refine pk_le 3 i (fun z => absurd z (by omega)) (fun _ => lw_pointTop hi h hX (fun X q hO hq wo rq tu un co fw wc wt wb ln em hh ht hb hl lt lb br l3 g3 b5 b6 b7 b8 b9 b10 b11 b12 b13 b14 b15 b16 b17 b18 b19 => ?_))
      refine lw_pointBottom hi h (fun no => ?_) (fun X1 q1 hO1 hq1 wo rq tu un co fw wc wt wb ln em hh ht hb hl lt lb br l3 g3 b5 b6 b7 b8 b9 b10 b11 b12 b13 b14 b15 b16 b17 b18 b19 => ?_)
      · obtain ⟨X, q, hA⟩ := hX
        exact absurd hA (no X q)
      refine lw_reachTop (sg := -1) hi (Or.inl ⟨rfl, rfl⟩) h hX (fun Y r hY wo rq tu un co fw wc wt wb ln em hh ht hb hl lt lb br l3 g3 b5 b6 b7 b8 b9 b10 b11 b12 b13 b14 b15 b16 b17 b18 b19 => ?_)
      refine lw_reachBottom (sg := -1) hi (Or.inl ⟨rfl, rfl⟩) h hX (fun Y1 r1 hY1 wo rq tu un co fw wc wt wb ln em hh ht hb hl lt lb br l3 g3 b5 b6 b7 b8 b9 b10 b11 b12 b13 b14 b15 b16 b17 b18 b19 => ?_)
      refine lw_reachTop (sg := 1) hi (Or.inr ⟨rfl, rfl⟩) h hX (fun Z s hZ wo rq tu un co fw wc wt wb ln em hh ht hb hl lt lb br l3 g3 b5 b6 b7 b8 b9 b10 b11 b12 b13 b14 b15 b16 b17 b18 b19 => ?_)
      refine lw_reachBottom (sg := 1) hi (Or.inr ⟨rfl, rfl⟩) h hX (fun Z1 s1 hZ1 wo rq tu un co fw wc wt wb ln em hh ht hb hl lt lb br l3 g3 b5 b6 b7 b8 b9 b10 b11 b12 b13 b14 b15 b16 b17 b18 b19 => ?_)
      rw [rd_eq hO1.1.1 hO.1.1 (sg_uni hO1 hO hi), rd_eq hY1.1.1 hY.1.1 (sg_Runi (Or.inr rfl) hY1 hY), rd_eq hZ1.1.1 hZ.1.1 (sg_Runi (Or.inl rfl) hZ1 hZ)]
      have xq := hO.1.1
      have yr := hY.1.1
      have zs := hZ.1.1
      have xb := lw_Xb hO.1 hq hi
      have yb := lw_Xb hY.1 hY.2.1 hi
      have zb := lw_Xb hZ.1 hZ.2.1 hi
      have rr := hY.2.1
      have ss := hZ.2.1
      obtain ⟨x1, x2, x3, x4, x5, x6⟩ := rd_ok (t := X i) xq
      obtain ⟨y1, y2, y3, y4, y5, y6⟩ := rd_ok (t := Y i) yr
      obtain ⟨z1, z2, z3, z4, z5, z6⟩ := rd_ok (t := Z i) zs
      have c1 := rd_le yr xq (show Y i * q ≤ X i * r by
        have := hY.2.2 X q hO.1
        omega)
      have c2 := rd_le xq zs (show X i * s ≤ Z i * q by
        have := hZ.2.2 X q hO.1
        omega)
      have ylow : 0 ≤ rd_T (Y i) r := by
        have a := (hY.1.2.1 i hi).1
        have gp := dv_pos (Y i) r
        rw [y1] at a
        exact tb_nn (show (0 : Int) < (dv_g (Y i) r : Int) by omega) a
      have zhigh : rd_T (Z i) s ≤ 20 * rd_B (Z i) s := by
        have a := (hZ.1.2.1 i hi).2
        have gp := dv_pos (Z i) s
        have g0 : (0 : Int) < (dv_g (Z i) s : Int) := by omega
        have e : 20 * s = (dv_g (Z i) s : Int) * (20 * rd_B (Z i) s) := by
          have : (dv_g (Z i) s : Int) * (20 * rd_B (Z i) s) = 20 * ((dv_g (Z i) s : Int) * rd_B (Z i) s) := by grind
          rw [this, ← z2]
        rw [e] at a
        have a' : (dv_g (Z i) s : Int) * rd_T (Z i) s ≤ (dv_g (Z i) s : Int) * (20 * rd_B (Z i) s) := by
          rw [← z1]
          exact a
        exact Int.le_of_mul_le_mul_left a' g0
      generalize rd_T (X i) q = T at *
      generalize rd_B (X i) q = B at *
      generalize rd_T (Y i) r = TY at *
      generalize rd_B (Y i) r = BY at *
      generalize rd_T (Z i) s = TZ at *
      generalize rd_B (Z i) s = BZ at *
      have m1 := am_abs (show T.natAbs ≤ 1152480 by omega) (show BY.natAbs ≤ 57624 by omega)
      have m2 := am_abs (show TY.natAbs ≤ 1152480 by omega) (show B.natAbs ≤ 57624 by omega)
      have m3 := am_abs (show TZ.natAbs ≤ 1152480 by omega) (show B.natAbs ≤ 57624 by omega)
      have m4 := am_abs (show T.natAbs ≤ 1152480 by omega) (show BZ.natAbs ≤ 57624 by omega)
      refine br_f (by decide) (fr_ok x3 (by omega) (by omega) x5 (br_f (by decide) (fr_ok y3 (by omega) (by omega) y5 (br_f (by decide) (fr_ok z3 (by omega) (by omega) z5 (br_f (by decide) (br_f ?_ (br_f ?_ ?_))))))))
      · rw [show ((0 : Int32)) = am_I 0 from rfl, am_Ilt ⟨by omega, by omega⟩ ⟨by omega, by omega⟩]
        omega
      · rw [show (20 : Int32) = am_I 20 from rfl, am_Imul, am_Ilt ⟨by omega, by omega⟩ ⟨by omega, by omega⟩]
        omega
      · rw [am_IL ⟨by omega, by omega⟩, am_IL ⟨by omega, by omega⟩, am_IL ⟨by omega, by omega⟩, am_IL ⟨by omega, by omega⟩, am_IL ⟨by omega, by omega⟩, am_IL ⟨by omega, by omega⟩, am_Lmul, am_Lmul, am_Lmul, am_Lmul]
        refine br_f ?_ (br_f ?_ (nm_r (nI_1 i) (ih (i + 1) _ _ _ _ _ _ _ _ _ _ _ _ _ _ _ _ _ _ _ _ _ _ _ _ _ _ _ _ _ _ _ _ _ _ _ (by omega))))
        · rw [am_Llt (am_Rabs m1 (by omega)) (am_Rabs m2 (by omega))]
          omega
        · rw [am_Llt (am_Rabs m3 (by omega)) (am_Rabs m4 (by omega))]
          omega
  refine lw_bestTop h hX (fun X q hO hq wo rq tu un co fw wc wt wb ln em hh ht hb hl lt lb br l3 g3 b5 b6 b7 b8 b9 b10 b11 b12 b13 b14 b15 b16 b17 b18 b19 => lw_bestBottom h hX (fun X1 q1 hO1 hq1 wo rq tu un co fw wc wt wb ln em hh ht hb hl lt lb br l3 g3 b5 b6 b7 b8 b9 b10 b11 b12 b13 b14 b15 b16 b17 b18 b19 => ?_))
  have w : so_W A4 X1 0 * q = so_W A4 X 0 * q1 := by
    have a := hO.2 X1 q1 hO1.1
    have b := hO1.2 X q hO.1
    unfold lx_N at a b
    try dsimp only at a b
    omega
  rw [rd_eq hO1.1.1 hO.1.1 w]
  have xq := hO.1.1
  have b := so_Wb h.2.2.2 hO.1.1 hO.1.2.1
  obtain ⟨x1, x2, x3, x4, x5, x6⟩ := rd_ok (t := so_W A4 X 0) xq
  exact fr_ok x3 (by omega) (by omega) x5 ⟨4, loop 3 0 _ _ _ _ _ _ _ _ _ _ _ _ _ _ _ _ _ _ _ _ _ _ _ _ _ _ _ _ _ _ _ _ _ _ _ (by omega)⟩
end
section
theorem lw_wholes {post : Int32 → St1 → Prop} {Fpr Fwo Frw Ftu : Int32} {Fun : Int64} {Fco Ffw Fwc : Int32} {Fwt Fwb : Int64} {Fln Fem Fhh : Int32} {Fht Fhb : Int64} {Fhl : Int32} {Flt Flb : Int64} {Fbr Fl3 Fg3 : Int32} {A1 A2 A3 A4 A5 A6 A7 A8 A9 : Nat → Int32} {A10 : Nat → Int64} {A11 A12 : Nat → Int32} {A13 A14 A15 A16 A17 : Nat → Int64} {A18 A19 : Nat → Int32} (h : iv_ok Fpr A1 A2 A3 A4) (H : ∀ (wo rq tu : Int32) (un : Int64) (co fw wc : Int32) (wt wb : Int64) (ln em hh : Int32) (ht hb : Int64) (hl : Int32) (lt lb : Int64) (br l3 g3 : Int32) (b5 b6 b7 b8 b9 : Nat → Int32) (b10 : Nat → Int64) (b11 b12 : Nat → Int32) (b13 b14 b15 b16 b17 : Nat → Int64) (b18 b19 : Nat → Int32), post 1 (Fpr, wo, rq, tu, un, co, fw, wc, wt, wb, ln, em, hh, ht, hb, hl, lt, lb, br, l3, g3, A1, A2, A3, A4, b5, b6, b7, b8, b9, b10, b11, b12, b13, b14, b15, b16, b17, b18, b19)) : wpL_wholes post (Fpr, Fwo, Frw, Ftu, Fun, Fco, Ffw, Fwc, Fwt, Fwb, Fln, Fem, Fhh, Fht, Fhb, Fhl, Flt, Flb, Fbr, Fl3, Fg3, A1, A2, A3, A4, A5, A6, A7, A8, A9, A10, A11, A12, A13, A14, A15, A16, A17, A18, A19) := by
  unfold wpL_wholes
  obtain ⟨_, h2, h3, h4⟩ := id h
  refine ct_wholes h2 h3 (fun wo rq tu un co fw wc wt wb ln em hh ht hb hl lt lb br l3 g3 b5 b6 b7 b8 b9 b10 b11 b12 b13 b14 b15 b16 b17 b18 b19 hc => ?_)
  refine bw_whole h2 h3 h4 (fun x wo rq tu un co fw wc wt wb ln em hh ht hb hl lt lb br l3 g3 b5 b6 b7 b8 b9 b10 b11 b12 b13 b14 b15 b16 b17 b18 b19 hx => ?_)
  refine bp_point h2 h3 h4 (fun y wo rq tu un co fw wc wt wb ln em hh ht hb hl lt lb br l3 g3 b5 b6 b7 b8 b9 b10 b11 b12 b13 b14 b15 b16 b17 b18 b19 hy => ?_)
  obtain ⟨n0, n1, n2⟩ := ct_nb hc
  have R : am_R3 (ct_n Fpr A1 A2 A3) := ⟨by omega, by omega⟩
  have lo : ¬ am_I (ct_n Fpr A1 A2 A3) < 0 := by
    rw [show (0 : Int32) = am_I 0 from rfl, am_Ilt R ⟨by omega, by omega⟩]
    omega
  have up : ¬ 9261 < am_I (ct_n Fpr A1 A2 A3) := by
    rw [show (9261 : Int32) = am_I 9261 from rfl, am_Ilt ⟨by omega, by omega⟩ R]
    omega
  by_cases z : ct_n Fpr A1 A2 A3 = 0
  · have no : ∀ p, ¬ so_A Fpr A1 A2 A3 p 1 := by
      intro p hp
      have := n2.mpr ⟨p, hp⟩
      omega
    have ex : x = -30000000 := by
      rcases hx with ⟨e, _⟩ | ⟨_, p, hp⟩
      · exact e
      · exact absurd hp (no p)
    have ey : y = -30000000 := by
      rcases hy with ⟨e, _⟩ | ⟨_, p, hp⟩
      · exact e
      · exact absurd hp (no p)
    refine br_t (by rw [z]; rfl) (br_f lo (br_f up (br_t ex (br_t rfl (br_t ey (br_t rfl (br_f (by decide) (H wo rq tu un co fw wc wt wb ln em hh ht hb hl lt lb br l3 g3 b5 b6 b7 b8 b9 b10 b11 b12 b13 b14 b15 b16 b17 b18 b19))))))))
  · have yes : ∃ p, so_A Fpr A1 A2 A3 p 1 := n2.mp (by omega)
    have ex : ¬ x = -30000000 := by
      rcases hx with ⟨_, g⟩ | ⟨e, _⟩
      · obtain ⟨p, hp⟩ := yes
        exact absurd hp (g p)
      · exact e
    have ey : ∃ c : Nat, c < 9261 ∧ y = nI c := by
      rcases hy with ⟨_, g⟩ | ⟨e, _⟩
      · obtain ⟨p, hp⟩ := yes
        exact absurd hp (g p)
      · exact e
    obtain ⟨c, hcc, ec⟩ := ey
    have yn : ¬ y = -30000000 := by
      intro q
      rw [ec] at q
      have := nI_pos (n := c) (by omega)
      rw [q] at this
      exact absurd (by decide) this
    have nz : ¬ am_I (ct_n Fpr A1 A2 A3) = 0 := by
      rw [show (0 : Int32) = am_I 0 from rfl, am_Ieq R ⟨by omega, by omega⟩]
      exact z
    refine br_f nz (br_f lo (br_f up (br_f ex (br_t rfl (br_f yn (br_t rfl (br_t rfl (br_f ?_ (br_f ?_ ?_)))))))))
    · rw [ec]
      exact nI_pos (by omega)
    · rw [ec]
      exact nI_ge (b := 9261) hcc (by omega)
    · refine lw_feas h (Or.inr (Or.inl rfl)) (fun no => ?_) (fun _ wo rq tu un co fw wc wt wb ln em hh ht hb hl lt lb br l3 g3 b5 b6 b7 b8 b9 b10 b11 b12 b13 b14 b15 b16 b17 b18 b19 => br_f (by decide) (H wo rq tu un co fw wc wt wb ln em hh ht hb hl lt lb br l3 g3 b5 b6 b7 b8 b9 b10 b11 b12 b13 b14 b15 b16 b17 b18 b19))
      obtain ⟨p, hp⟩ := yes
      exact absurd hp (no p 1)
theorem bt_bit : ∀ P : Fin 32, ∀ k : Fin 5, ((nI P.val >>> (nI k.val &&& 31)) &&& 1) = 1 ∨ ((nI P.val >>> (nI k.val &&& 31)) &&& 1) = 0 := by decide +kernel
/-- the end of a turn's checks: what isn't there, and what is out of range -/
theorem lw_267 {post : Int32 → Prop} {L : Nat} {xs : Nat → Int32} {J : Int32 → Int32 → Int32 → Int32 → Int32 → Int64 → Int32 → Int32 → Int32 → Int64 → Int64 → Int32 → Int32 → Int32 → Int64 → Int64 → Int32 → Int64 → Int64 → Int32 → Int32 → Int32 → (Nat → Int32) → (Nat → Int32) → (Nat → Int32) → (Nat → Int32) → (Nat → Int32) → (Nat → Int32) → (Nat → Int32) → (Nat → Int32) → (Nat → Int32) → (Nat → Int64) → (Nat → Int32) → (Nat → Int32) → (Nat → Int64) → (Nat → Int64) → (Nat → Int64) → (Nat → Int64) → (Nat → Int64) → (Nat → Int32) → (Nat → Int32) → Prop} {k kc ks : Nat} {Fpr Fwo Frw Ftu : Int32} {Fun : Int64} {Fco Ffw Fwc : Int32} {Fwt Fwb : Int64} {Fln Fem Fhh : Int32} {Fht Fhb : Int64} {Fhl : Int32} {Flt Flb : Int64} {Fbr Fl3 Fg3 : Int32} {A1 A2 A3 A4 A5 A6 A7 A8 A9 : Nat → Int32} {A10 : Nat → Int64} {A11 A12 : Nat → Int32} {A13 A14 A15 A16 A17 : Nat → Int64} {A18 A19 : Nat → Int32} (h : iv_ok Fpr A1 A2 A3 A4) (H : J (nI (k + 4)) Fpr Fwo Frw Ftu Fun Fco Ffw Fwc Fwt Fwb Fln Fem Fhh Fht Fhb Fhl Flt Flb Fbr Fl3 Fg3 A1 A2 A3 A4 A5 A6 A7 A8 A9 A10 A11 A12 A13 A14 A15 A16 A17 A18 A19) : ∃ fu, wL_law_267 post L xs J (nI k) Fpr kc ks fu (-1) Fpr Fwo Frw Ftu Fun Fco Ffw Fwc Fwt Fwb Fln Fem Fhh Fht Fhb Fhl Flt Flb Fbr Fl3 Fg3 A1 A2 A3 A4 A5 A6 A7 A8 A9 A10 A11 A12 A13 A14 A15 A16 A17 A18 A19 := by
  obtain ⟨⟨P, hP, eP⟩, h2, h3, h4⟩ := id h
  refine pk_loop (σ := Unit) (fun n i _ => wL_law_267 post L xs J (nI k) Fpr kc ks n (am_I ((i : Int) - 1)) Fpr Fwo Frw Ftu Fun Fco Ffw Fwc Fwt Fwb Fln Fem Fhh Fht Fhb Fhl Flt Flb Fbr Fl3 Fg3 A1 A2 A3 A4 A5 A6 A7 A8 A9 A10 A11 A12 A13 A14 A15 A16 A17 A18 A19) (fun _ _ => True) 7 0 () (by omega) trivial ?_ ?_
  · intro n _ _
    refine br_t (by decide) ?_
    refine br_f (by decide) (br_t (by decide) (br_t rfl ?_))
    refine br_t rfl (br_f (by decide) (br_t (by decide) (br_t rfl (br_t rfl ?_))))
    refine br_t (by decide) (br_t rfl (br_t rfl ?_))
    refine br_f (by decide) (br_t (by decide) (br_t rfl (br_t rfl ?_)))
    refine br_f (by decide) (br_t (by decide) (br_t rfl (br_t rfl ?_)))
    refine br_f (by decide) (br_f (by decide) (br_f (by decide) (br_f (by decide) (br_f (by decide) (br_t rfl ?_)))))
    exact nm_r (e' := nI (k + 4)) (nI_add k 4) H
  · intro n i _ hi _ hk
    have nx : ∀ y : Int32, y = am_I ((i : Int) - 1) + 1 → wL_law_267 post L xs J (nI k) Fpr kc ks n y Fpr Fwo Frw Ftu Fun Fco Ffw Fwc Fwt Fwb Fln Fem Fhh Fht Fhb Fhl Flt Flb Fbr Fl3 Fg3 A1 A2 A3 A4 A5 A6 A7 A8 A9 A10 A11 A12 A13 A14 A15 A16 A17 A18 A19 := by
      intro y ey
      have := hk () trivial
      have e : y = am_I (((i + 1 : Nat) : Int) - 1) := by
        rw [ey, show (1 : Int32) = am_I 1 from rfl, am_Iadd]
        congr 1
        omega
      rw [e]
      exact this
    have out : (∀ c, c < 5 → am_I ((i : Int) - 1) = nI c → ¬ hs_b Fpr c) → wL_law_300 post L xs J (wL_law_267 post L xs J (nI k) Fpr kc ks n) (nI k) Fpr (am_I ((i : Int) - 1)) kc ks Fpr Fwo Frw Ftu Fun Fco Ffw Fwc Fwt Fwb Fln Fem Fhh Fht Fhb Fhl Flt Flb Fbr Fl3 Fg3 A1 A2 A3 A4 A5 A6 A7 A8 A9 A10 A11 A12 A13 A14 A15 A16 A17 A18 A19 := by
      intro no
      refine br_t rfl ?_
      unfold wpX_redundant
      refine (wk_hasx (fun _ => br_t rfl (br_t rfl (tn_remove (fun _ => br_t rfl (nx)) (fun c hc e yes => absurd yes (no c hc e))))) (fun c hc e yes => absurd yes (no c hc e)))
    refine br_f ?_ (br_c (fun q => out (fun c hc e => ?_)) (fun q => br_c (fun q2 => out (fun c hc e => ?_)) (fun q2 => br_c (fun q3 => ?_) (fun q3 => out (fun c hc e => ?_)))))
    · rw [show (6 : Int32) = am_I 6 from rfl, am_Ile ⟨by omega, by omega⟩ ⟨by omega, by omega⟩]
      omega
    · rw [e] at q
      exact absurd q (nI_pos (by omega))
    · rw [e] at q2
      exact absurd q2 (nI_ge (b := 5) hc (by omega))
    · exact br_f (by decide) (nx)
    · intro yes
      rw [e] at q3
      unfold hs_b at yes
      rw [eP] at q3 yes
      rcases bt_bit ⟨P, hP⟩ ⟨c, hc⟩ with g | g
      · exact q3 g
      · exact yes g
theorem lw_185 {post : Int32 → Prop} {L : Nat} {xs : Nat → Int32} {J : Int32 → Int32 → Int32 → Int32 → Int32 → Int64 → Int32 → Int32 → Int32 → Int64 → Int64 → Int32 → Int32 → Int32 → Int64 → Int64 → Int32 → Int64 → Int64 → Int32 → Int32 → Int32 → (Nat → Int32) → (Nat → Int32) → (Nat → Int32) → (Nat → Int32) → (Nat → Int32) → (Nat → Int32) → (Nat → Int32) → (Nat → Int32) → (Nat → Int32) → (Nat → Int64) → (Nat → Int32) → (Nat → Int32) → (Nat → Int64) → (Nat → Int64) → (Nat → Int64) → (Nat → Int64) → (Nat → Int64) → (Nat → Int32) → (Nat → Int32) → Prop} {k kc ks : Nat} {Fpr Fwo Frw Ftu : Int32} {Fun : Int64} {Fco Ffw Fwc : Int32} {Fwt Fwb : Int64} {Fln Fem Fhh : Int32} {Fht Fhb : Int64} {Fhl : Int32} {Flt Flb : Int64} {Fbr Fl3 Fg3 : Int32} {A1 A2 A3 A4 A5 A6 A7 A8 A9 : Nat → Int32} {A10 : Nat → Int64} {A11 A12 : Nat → Int32} {A13 A14 A15 A16 A17 : Nat → Int64} {A18 A19 : Nat → Int32} (h : iv_ok Fpr A1 A2 A3 A4) (H : ∀ (wo rq tu : Int32) (un : Int64) (co fw wc : Int32) (wt wb : Int64) (ln em hh : Int32) (ht hb : Int64) (hl : Int32) (lt lb : Int64) (br l3 g3 : Int32) (b5 b6 b7 b8 b9 : Nat → Int32) (b10 : Nat → Int64) (b11 b12 : Nat → Int32) (b13 b14 b15 b16 b17 : Nat → Int64) (b18 b19 : Nat → Int32), J (nI (k + 4)) Fpr wo rq tu un co fw wc wt wb ln em hh ht hb hl lt lb br l3 g3 A1 A2 A3 A4 b5 b6 b7 b8 b9 b10 b11 b12 b13 b14 b15 b16 b17 b18 b19) : wL_law_185 post L xs J (nI k) Fpr 1 kc ks Fpr Fwo Frw Ftu Fun Fco Ffw Fwc Fwt Fwb Fln Fem Fhh Fht Fhb Fhl Flt Flb Fbr Fl3 Fg3 A1 A2 A3 A4 A5 A6 A7 A8 A9 A10 A11 A12 A13 A14 A15 A16 A17 A18 A19 := by
  obtain ⟨⟨P, hP, eP⟩, h2, h3, h4⟩ := id h
  have lo : ¬ Fpr < 0 := by
    rw [eP]
    exact nI_pos (by omega)
  have up : ¬ 31 < Fpr := by
    rw [eP]
    intro q
    have := (nI_ltI (a := 31) (b := P) (by omega) (by omega)).mp q
    omega
  unfold wL_law_185
  refine lw_feas h (Or.inr (Or.inr rfl)) (fun no wo rq tu un co fw wc wt wb ln em hh ht hb hl lt lb br l3 g3 b5 b6 b7 b8 b9 b10 b11 b12 b13 b14 b15 b16 b17 b18 b19 => br_f (by decide) (br_f lo (br_f up ?_))) (fun hX wo rq tu un co fw wc wt wb ln em hh ht hb hl lt lb br l3 g3 b5 b6 b7 b8 b9 b10 b11 b12 b13 b14 b15 b16 b17 b18 b19 => br_f (by decide) (br_f lo (br_f up ?_)))
  · refine lw_feas h (Or.inl rfl) (fun _ wo rq tu un co fw wc wt wb ln em hh ht hb hl lt lb br l3 g3 b5 b6 b7 b8 b9 b10 b11 b12 b13 b14 b15 b16 b17 b18 b19 => br_t rfl ?_) (fun hX => ?_)
    · refine lw_wholes h (fun wo rq tu un co fw wc wt wb ln em hh ht hb hl lt lb br l3 g3 b5 b6 b7 b8 b9 b10 b11 b12 b13 b14 b15 b16 b17 b18 b19 => br_f (by decide) (br_t rfl ?_))
      refine lw_tight h (fun _ wo rq tu un co fw wc wt wb ln em hh ht hb hl lt lb br l3 g3 b5 b6 b7 b8 b9 b10 b11 b12 b13 b14 b15 b16 b17 b18 b19 => br_t rfl ?_) (fun hX => ?_)
      · refine lw_pointBottom (i := 1) (by decide) h (fun _ wo rq tu un co fw wc wt wb ln em hh ht hb hl lt lb br l3 g3 b5 b6 b7 b8 b9 b10 b11 b12 b13 b14 b15 b16 b17 b18 b19 => br_t rfl (lw_267 h (H wo rq tu un co fw wc wt wb ln em hh ht hb hl lt lb br l3 g3 b5 b6 b7 b8 b9 b10 b11 b12 b13 b14 b15 b16 b17 b18 b19))) (fun X q hO => absurd hO.1 (no X q))
      · obtain ⟨X, q, hA⟩ := hX
        exact absurd hA (no X q)
    · obtain ⟨X, q, hA⟩ := hX
      exact absurd hA (no X q)
  · refine lw_feas h (Or.inl rfl) (fun no => ?_) (fun _ wo rq tu un co fw wc wt wb ln em hh ht hb hl lt lb br l3 g3 b5 b6 b7 b8 b9 b10 b11 b12 b13 b14 b15 b16 b17 b18 b19 => br_t rfl ?_)
    · obtain ⟨X, q, hA⟩ := hX
      exact absurd hA (no X q)
    · refine lw_wholes h (fun wo rq tu un co fw wc wt wb ln em hh ht hb hl lt lb br l3 g3 b5 b6 b7 b8 b9 b10 b11 b12 b13 b14 b15 b16 b17 b18 b19 => br_f (by decide) (br_f (by decide) ?_))
      exact lw_shown h hX (fun wo rq tu un co fw wc wt wb ln em hh ht hb hl lt lb br l3 g3 b5 b6 b7 b8 b9 b10 b11 b12 b13 b14 b15 b16 b17 b18 b19 => br_f (by decide) (lw_267 h (H wo rq tu un co fw wc wt wb ln em hh ht hb hl lt lb br l3 g3 b5 b6 b7 b8 b9 b10 b11 b12 b13 b14 b15 b16 b17 b18 b19)))
theorem wk_cond {post : Int32 → Prop} {Fpr Fwo Frw Ftu : Int32} {Fun : Int64} {Fco Ffw Fwc : Int32} {Fwt Fwb : Int64} {Fln Fem Fhh : Int32} {Fht Fhb : Int64} {Fhl : Int32} {Flt Flb : Int64} {Fbr Fl3 Fg3 : Int32} {A1 A2 A3 A4 A5 A6 A7 A8 A9 : Nat → Int32} {A10 : Nat → Int64} {A11 A12 : Nat → Int32} {A13 A14 A15 A16 A17 : Nat → Int64} {A18 A19 : Nat → Int32} (H : post Fpr) : wpX_conditions post (Fpr, Fwo, Frw, Ftu, Fun, Fco, Ffw, Fwc, Fwt, Fwb, Fln, Fem, Fhh, Fht, Fhb, Fhl, Flt, Flb, Fbr, Fl3, Fg3, A1, A2, A3, A4, A5, A6, A7, A8, A9, A10, A11, A12, A13, A14, A15, A16, A17, A18, A19) := H
theorem lw_loop {L : Nat} {xs : Nat → Int32} (hL : L ≤ 260) {kc ks : Nat} : ∀ (f k : Nat) (Fpr : Int32) (A1 A2 A3 A4 : Nat → Int32) (wo rq tu : Int32) (un : Int64) (co fw wc : Int32) (wt wb : Int64) (ln em hh : Int32) (ht hb : Int64) (hl : Int32) (lt lb : Int64) (br l3 g3 : Int32) (b5 b6 b7 b8 b9 : Nat → Int32) (b10 : Nat → Int64) (b11 b12 : Nat → Int32) (b13 b14 b15 b16 b17 : Nat → Int64) (b18 b19 : Nat → Int32), iv_ok Fpr A1 A2 A3 A4 → 40 ≤ k + 4 * f → k ≤ 43 → wL_law_10 (fun r => r = 1) L xs kc ks (f + 1) (nI k) Fpr wo rq tu un co fw wc wt wb ln em hh ht hb hl lt lb br l3 g3 A1 A2 A3 A4 b5 b6 b7 b8 b9 b10 b11 b12 b13 b14 b15 b16 b17 b18 b19 := by
  intro f
  induction f with
  | zero =>
    intro k Fpr A1 A2 A3 A4 wo rq tu un co fw wc wt wb ln em hh ht hb hl lt lb br l3 g3 b5 b6 b7 b8 b9 b10 b11 b12 b13 b14 b15 b16 b17 b18 b19 h hf hk
    exact br_c (fun _ => rfl) (fun _ => pk_le 40 k (fun _ => rfl) (fun z => absurd z (by omega)))
  | succ f ih =>
    intro k Fpr A1 A2 A3 A4 wo rq tu un co fw wc wt wb ln em hh ht hb hl lt lb br l3 g3 b5 b6 b7 b8 b9 b10 b11 b12 b13 b14 b15 b16 b17 b18 b19 h hf hk
    obtain ⟨_, h2, h3, h4⟩ := id h
    refine pk_le L (k + 3) (fun _ => rfl) (fun zL => pk_le 40 k (fun _ => rfl) (fun zk => ?_)) rfl (nI_add k 3)
    have i0 : vp_in (nI k) L := pk_in k L (by omega)
    have i1 : vp_in (nI k + 1) L := pk_in (k + 1) L (by omega) (nI_1 k)
    have i2 : vp_in (nI k + 2) L := pk_in (k + 2) L (by omega) (nI_add k 2)
    have i3 : vp_in (nI k + 3) L := pk_in (k + 3) L (by omega) (nI_add k 3)
    refine wk_cond ?_
    refine ct_wholes h2 h3 (fun wo rq tu un co fw wc wt wb ln em hh ht hb hl lt lb br l3 g3 b5 b6 b7 b8 b9 b10 b11 b12 b13 b14 b15 b16 b17 b18 b19 hc => ⟨i0, i1, i2, i3, ?_⟩)
    refine tn_ok h (fun F' B1 B2 B3 B4 h' mv => ?_)
    obtain ⟨_, h2', h3', h4'⟩ := id h'
    refine wk_cond ?_
    refine ct_wholes h2' h3' (fun wo rq tu un co fw wc wt wb ln em hh ht hb hl lt lb br l3 g3 b5 b6 b7 b8 b9 b10 b11 b12 b13 b14 b15 b16 b17 b18 b19 hc' => ⟨i0, nm_e (nm_e (nm_e ?_))⟩)
    obtain ⟨n0, n1, _⟩ := ct_nb hc
    obtain ⟨m0, m1, _⟩ := ct_nb hc'
    have Rn : am_R3 (ct_n Fpr A1 A2 A3) := ⟨by omega, by omega⟩
    have Rm : am_R3 (ct_n F' B1 B2 B3) := ⟨by omega, by omega⟩
    have good : wL_law_185 (fun r => r = 1) L xs (wL_law_10 (fun r => r = 1) L xs kc ks (f + 1)) (nI k) F' 1 kc ks F' wo rq tu un co fw wc wt wb ln em hh ht hb hl lt lb br l3 g3 B1 B2 B3 B4 b5 b6 b7 b8 b9 b10 b11 b12 b13 b14 b15 b16 b17 b18 b19 :=
      lw_185 h' (fun wo rq tu un co fw wc wt wb ln em hh ht hb hl lt lb br l3 g3 b5 b6 b7 b8 b9 b10 b11 b12 b13 b14 b15 b16 b17 b18 b19 => ih (k + 4) F' B1 B2 B3 B4 wo rq tu un co fw wc wt wb ln em hh ht hb hl lt lb br l3 g3 b5 b6 b7 b8 b9 b10 b11 b12 b13 b14 b15 b16 b17 b18 b19 h' (by omega) (by omega))
    obtain ⟨v1, v2, v3⟩ := mv
    refine br_c (fun w8 => br_c (fun w11 => ?_) (fun w11 => ?_)) (fun w8 => ?_)
    · obtain ⟨e, q⟩ := v3 w8 w11
      refine br_t e (br_t ?_ good)
      have a := ct_nmono hc hc' (fun X => (q X).mp)
      have b := ct_nmono hc' hc (fun X => (q X).mpr)
      congr 1
      omega
    · obtain ⟨e1, e2, q⟩ := v2 w8 w11
      refine br_t e1 (br_t e2 (br_f ?_ good))
      have b := ct_nmono hc' hc q
      rw [am_Ilt Rm Rn]
      omega
    · obtain ⟨e1, e2, q⟩ := v1 w8
      refine br_t e1 (br_t e2 (br_f ?_ good))
      have a := ct_nmono hc hc' q
      rw [am_Ilt Rn Rm]
      omega
/-! ===== WHAT IS OWED for AmountPlannerLaw: one statement: the law answers true on every script of L ints xs ===== -/
theorem i_vc (xs : Nat → Int32) (L : Nat) (hL : L ≤ 260) : wpL_law (fun r => r = 1) L xs := by
  refine ⟨19, 2661, by omega, by omega, ?_⟩
  refine ⟨by omega, by omega, by omega, by omega, by omega, by omega, by omega, by omega, by omega, by omega, by omega, by omega, by omega, by omega, by omega, by omega, by omega, by omega, by omega, by omega, by omega, by omega, by omega, by omega, by omega, by omega, by omega, by omega, by omega, by omega, by omega, by omega, by omega, by omega, by omega, by omega, by omega, by omega, ?_⟩
  exact ⟨11, lw_loop hL 10 0 0 _ _ _ _ _ _ _ _ _ _ _ _ _ _ _ _ _ _ _ _ _ _ _ _ _ _ _ _ _ _ _ _ _ _ _ _ _ _ _ ⟨⟨0, by omega, rfl⟩, fun _ _ => by (show (0 : Int32).toInt.natAbs ≤ 7); decide, fun _ _ => by (show (0 : Int32).toInt.natAbs ≤ 99); decide, fun _ _ => by (show (0 : Int32).toInt.natAbs ≤ 7); decide⟩ (by omega) (by omega)⟩
end
