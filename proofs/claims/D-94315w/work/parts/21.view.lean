/-! VIEWS: what a state says, in whole numbers: V 0 j the nine numbers; 1 numbers, 2 firsts, 3 who is near, 4 given, 5 needs (4 each), 6 heard (2 each), 7 talks (2 each), 8 their hours -/
set_option maxRecDepth 100000
theorem nc_I_s (σ : nc_S) (k j j' : Nat) (v : Int32) : (nc_I σ k j v).1 k j' = if j' = j then v else σ.1 k j' := by simp [nc_I, va_up, upd]
theorem nc_I_n {σ : nc_S} {k k' j j' : Nat} {v : Int32} (h : k' ≠ k) : (nc_I σ k j v).1 k' j' = σ.1 k' j' := by simp [nc_I, va_up, h]
theorem nc_I_2 (σ : nc_S) (k j : Nat) (v : Int32) : (nc_I σ k j v).2 = σ.2 := rfl
theorem nc_L_s (σ : nc_S) (k j j' : Nat) (v : Int64) : (nc_L σ k j v).2 k j' = if j' = j then v else σ.2 k j' := by simp [nc_L, va_up, vp_updL]
theorem nc_L_n {σ : nc_S} {k k' j j' : Nat} {v : Int64} (h : k' ≠ k) : (nc_L σ k j v).2 k' j' = σ.2 k' j' := by simp [nc_L, va_up, h]
theorem nc_L_1 (σ : nc_S) (k j : Nat) (v : Int64) : (nc_L σ k j v).1 = σ.1 := rfl
theorem nc_F_s (σ : nc_S) (k : Nat) (f : Nat → Int32) : (nc_F σ k f).1 k = f := by simp [nc_F, va_up]
theorem nc_F_n {σ : nc_S} {k k' : Nat} {f : Nat → Int32} (h : k' ≠ k) : (nc_F σ k f).1 k' = σ.1 k' := by simp [nc_F, va_up, h]
theorem nc_F_2 (σ : nc_S) (k : Nat) (f : Nat → Int32) : (nc_F σ k f).2 = σ.2 := rfl
abbrev nc_V : Type := Nat → Nat → Int
def v_set (V : nc_V) (k j : Nat) (z : Int) : nc_V := fun k' j' => if k' = k ∧ j' = j then z else V k' j'
theorem v_set_s (V : nc_V) (k j j' : Nat) (z : Int) : v_set V k j z k j' = if j' = j then z else V k j' := by simp [v_set]
theorem v_set_n {V : nc_V} {k k' j j' : Nat} {z : Int} (h : k' ≠ k) : v_set V k j z k' j' = V k' j' := by simp [v_set, h]
/-- numbers in their bounds -/
def v_ok (V : nc_V) : Prop := (0 ≤ V 0 0 ∧ V 0 0 ≤ 12) ∧ (0 ≤ V 0 1 ∧ V 0 1 ≤ 999 ∧ V 0 1 ≠ 1) ∧ (1 ≤ V 0 2 ∧ V 0 2 ≤ 60) ∧ (0 ≤ V 0 3 ∧ V 0 3 ≤ 4) ∧ (-1 ≤ V 0 4 ∧ V 0 4 < V 0 3) ∧ (0 ≤ V 0 5 ∧ V 0 5 ≤ 30) ∧ (0 ≤ V 0 6 ∧ V 0 6 ≤ 6) ∧ (0 ≤ V 0 7 ∧ V 0 7 ≤ 12) ∧ (0 ≤ V 0 8 ∧ V 0 8 ≤ 20)
  ∧ (∀ p : Nat, p < V 0 0 → 1 ≤ V 1 p ∧ V 1 p ≤ 9999 ∧ 0 ≤ V 2 p ∧ V 2 p ≤ 9999)
  ∧ (∀ k : Nat, k < V 0 6 → 1 ≤ V 4 k ∧ V 4 k ≤ 9999)
  ∧ (∀ k : Nat, k < V 0 7 → 0 ≤ V 5 (4 * k) ∧ V 5 (4 * k) < V 0 0 ∧ 0 ≤ V 5 (4 * k + 1) ∧ V 5 (4 * k + 1) < V 0 0 ∧ V 5 (4 * k) ≠ V 5 (4 * k + 1) ∧ 1 ≤ V 5 (4 * k + 2) ∧ V 5 (4 * k + 2) ≤ 999 ∧ 1 ≤ V 5 (4 * k + 3) ∧ V 5 (4 * k + 3) ≤ 100000)
  ∧ (∀ k : Nat, k < V 0 8 → 0 ≤ V 6 (2 * k) ∧ V 6 (2 * k) ≤ 999999 ∧ 0 ≤ V 6 (2 * k + 1) ∧ V 6 (2 * k + 1) ≤ 1)
  ∧ (∀ k : Nat, k < V 0 5 → 0 ≤ V 7 (2 * k) ∧ V 7 (2 * k) < V 0 0 ∧ 0 ≤ V 7 (2 * k + 1) ∧ V 7 (2 * k + 1) < V 0 0 ∧ V 7 (2 * k) ≠ V 7 (2 * k + 1) ∧ 0 ≤ V 8 k ∧ V 8 k ≤ 1000000000000000)
/-- the class's state at the place b says V -/
def xB (V : nc_V) (σ : nc_S) (b : Nat) : Prop := (∀ j : Nat, j < 9 → σ.1 (b + 1) j = iI (V 0 j))
  ∧ (∀ p : Nat, p < V 0 0 → σ.1 (b + 2) p = iI (V 1 p) ∧ σ.1 (b + 3) p = iI (V 2 p) ∧ σ.1 (b + 4) p = iI (V 3 p))
  ∧ (∀ k : Nat, k < V 0 6 → σ.1 (b + 5) k = iI (V 4 k))
  ∧ (∀ k : Nat, k < V 0 7 → ∀ j : Nat, j < 4 → σ.1 (b + 11 + k) j = iI (V 5 (4 * k + j)))
  ∧ (∀ k : Nat, k < V 0 8 → ∀ j : Nat, j < 2 → σ.1 (b + 23 + k) j = iI (V 6 (2 * k + j)))
  ∧ (∀ k : Nat, k < V 0 5 → ∀ j : Nat, j < 2 → σ.1 (b + 43 + k) j = iI (V 7 (2 * k + j)))
  ∧ (∀ k : Nat, k < V 0 5 → σ.2 (b + 9) k = lI (V 8 k))
/-- the reference's row a, with its talks' hours h, says V -/
def mB (V : nc_V) (a : Nat → Int32) (h : Nat → Int64) : Prop := (∀ j : Nat, j < 9 → a j = iI (V 0 j))
  ∧ (∀ p : Nat, p < V 0 0 → a (10 + 2 * p) = iI (V 1 p) ∧ a (11 + 2 * p) = iI (V 2 p))
  ∧ (∀ p : Nat, p < 12 → a (40 + p) = iI (if p < V 0 0 then V 3 p else 0))
  ∧ (∀ k : Nat, k < V 0 6 → a (55 + k) = iI (V 4 k))
  ∧ (∀ k : Nat, k < V 0 7 → ∀ j : Nat, j < 4 → a (65 + (4 * k + j)) = iI (V 5 (4 * k + j)))
  ∧ (∀ k : Nat, k < V 0 8 → ∀ j : Nat, j < 2 → a (150 + (2 * k + j)) = iI (V 6 (2 * k + j)))
  ∧ (∀ k : Nat, k < V 0 5 → ∀ j : Nat, j < 2 → a (200 + (2 * k + j)) = iI (V 7 (2 * k + j)))
  ∧ (∀ k : Nat, k < V 0 5 → h k = lI (V 8 k))
-- answers of the tests
theorem nc_if0 {c : Prop} [Decidable c] : ((if c then (1 : Int32) else 0) = 0) ↔ ¬ c := by
  by_cases h : c <;> simp [h]
theorem nc_ifz {c : Prop} [Decidable c] : nc_z (if c then (1 : Int32) else 0) := by
  by_cases h : c <;> simp [h] <;> rfl
theorem sX0_in {tt : Nat → Option nc_text} {a b c : Int64} {σ : nc_S} {Q : Int32 → nc_S → Prop} (h : Q (if b ≤ a ∧ a ≤ c then 1 else 0) σ) : wX0_in tt a b c σ Q := by
  unfold wX0_in
  refine ⟨fun h1 => ?_, fun h1 => ⟨fun h2 => ?_, fun h2 => ?_⟩⟩
  · rw [if_neg (fun q => Int64.not_le.mpr h1 q.1)] at h; exact h
  · rw [if_neg (fun q => Int64.not_le.mpr h2 q.2)] at h; exact h
  · rw [if_pos ⟨Int64.not_lt.mp h1, Int64.not_lt.mp h2⟩] at h; exact h
theorem sX2_isIn {a b c : Int32} {σ : nc_S} {Q : Int32 → nc_S → Prop} (h : Q (if b ≤ a ∧ a ≤ c then 1 else 0) σ) : wX2_isIn a b c σ Q := by
  unfold wX2_isIn
  refine ⟨fun h1 => ?_, fun h1 => ⟨fun h2 => ?_, fun h2 => ?_⟩⟩
  · rw [if_neg (fun q => Int32.not_le.mpr h1 q.1)] at h; exact h
  · rw [if_neg (fun q => Int32.not_le.mpr h2 q.2)] at h; exact h
  · rw [if_pos ⟨Int32.not_lt.mp h1, Int32.not_lt.mp h2⟩] at h; exact h
section SMALL
variable {tt : Nat → Option nc_text} {σ μ : nc_S} {V : nc_V} {Q : Int32 → nc_S → Prop} {z z2 z3 : Int}
theorem sX0_isPerson (hV : v_ok V) (hB : xB V σ 11) (h1 : -2147483648 ≤ z) (h2 : z < 2147483648) (h : Q (if 0 ≤ z ∧ z < V 0 0 then 1 else 0) σ) : wX0_isPerson tt (iI z) σ Q := by
  unfold wX0_isPerson
  obtain ⟨hN, -⟩ := hV
  rw [hB.1 0 (by decide)]
  apply sX0_in
  refine ⟨nc_ifz, ?_⟩
  have e : (lI 0 ≤ (iI z).toInt64 ∧ (iI z).toInt64 ≤ (iI (V 0 0) - 1).toInt64) ↔ (0 ≤ z ∧ z < V 0 0) := by
    simp (disch := omega) only [iI_lit, lI_lit, iI_neg, lI_neg, iI_add, iI_sub, iI_mul, lI_add, lI_sub, lI_mul, lI_i, iI_lt, iI_le, iI_eq, lI_lt, lI_le, lI_eq, iI_in, iI_nat, iI_l, nc_I_s, nc_I_n, nc_I_2, nc_L_s, nc_L_n, nc_L_1, nc_F_s, nc_F_n, nc_F_2]
    omega
  have e : ((0 : Int64) ≤ (iI z).toInt64 ∧ (iI z).toInt64 ≤ (iI (V 0 0) - 1).toInt64) ↔ (0 ≤ z ∧ z < V 0 0) := e
  simp only [e]
  exact h
theorem sX2_isPerson (hV : v_ok V) (hB : mB V (μ.1 1) (μ.2 3)) (h1 : -2147483648 ≤ z) (h2 : z < 2147483648) (h : Q (if 0 ≤ z ∧ z < V 0 0 then 1 else 0) μ) : wX2_isPerson (iI z) μ Q := by
  unfold wX2_isPerson
  obtain ⟨hN, -⟩ := hV
  rw [hB.1 0 (by decide)]
  apply sX2_isIn
  refine ⟨nc_ifz, ?_⟩
  have e : ((0 : Int32) ≤ iI z ∧ iI z ≤ iI (V 0 0) - 1) ↔ (0 ≤ z ∧ z < V 0 0) := by
    simp (disch := omega) only [iI_lit, lI_lit, iI_neg, lI_neg, iI_add, iI_sub, iI_mul, lI_add, lI_sub, lI_mul, lI_i, iI_lt, iI_le, iI_eq, lI_lt, lI_le, lI_eq, iI_in, iI_nat, iI_l, nc_I_s, nc_I_n, nc_I_2, nc_L_s, nc_L_n, nc_L_1, nc_F_s, nc_F_n, nc_F_2]
    omega
  simp only [e]
  exact h
end SMALL
