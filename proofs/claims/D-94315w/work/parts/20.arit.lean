/-! ARITHMETIC: ints and longs as whole numbers -/
def iI (z : Int) : Int32 := Int32.ofInt z
def lI (z : Int) : Int64 := Int64.ofInt z
theorem iI_T {z : Int} (h1 : -2147483648 ≤ z) (h2 : z < 2147483648) : (iI z).toInt = z := Int32.toInt_ofInt_of_le (by omega) (by omega)
theorem lI_T {z : Int} (h1 : -9223372036854775808 ≤ z) (h2 : z < 9223372036854775808) : (lI z).toInt = z := Int64.toInt_ofInt_of_le (by omega) (by omega)
theorem iI_self (x : Int32) : iI x.toInt = x := Int32.ofInt_toInt x
theorem lI_self (x : Int64) : lI x.toInt = x := Int64.ofInt_toInt x
theorem iI_ex (x : Int32) : ∃ z : Int, -2147483648 ≤ z ∧ z < 2147483648 ∧ x = iI z := ⟨x.toInt, by have := x.le_toInt; omega, by have := x.toInt_lt; omega, (iI_self x).symm⟩
theorem lI_ex (x : Int64) : ∃ z : Int, -9223372036854775808 ≤ z ∧ z < 9223372036854775808 ∧ x = lI z := ⟨x.toInt, by have := x.le_toInt; omega, by have := x.toInt_lt; omega, (lI_self x).symm⟩
theorem iI_add (a b : Int) : iI a + iI b = iI (a + b) := (Int32.ofInt_add a b).symm
theorem iI_sub (a b : Int) : iI a - iI b = iI (a - b) := (Int32.ofInt_sub a b).symm
theorem iI_mul (a b : Int) : iI a * iI b = iI (a * b) := (Int32.ofInt_mul a b).symm
theorem iI_neg (a : Int) : -iI a = iI (-a) := Int32.neg_ofInt
theorem lI_add (a b : Int) : lI a + lI b = lI (a + b) := (Int64.ofInt_add a b).symm
theorem lI_sub (a b : Int) : lI a - lI b = lI (a - b) := (Int64.ofInt_sub a b).symm
theorem lI_mul (a b : Int) : lI a * lI b = lI (a * b) := (Int64.ofInt_mul a b).symm
theorem lI_neg (a : Int) : -lI a = lI (-a) := Int64.neg_ofInt
theorem iI_lit (n : Nat) : (no_index (OfNat.ofNat n) : Int32) = iI (no_index (OfNat.ofNat n)) := rfl
theorem lI_lit (n : Nat) : (no_index (OfNat.ofNat n) : Int64) = lI (no_index (OfNat.ofNat n)) := rfl
theorem iI_lt {a b : Int} (h1 : -2147483648 ≤ a) (h2 : a < 2147483648) (h3 : -2147483648 ≤ b) (h4 : b < 2147483648) : iI a < iI b ↔ a < b := by rw [Int32.lt_iff_toInt_lt, iI_T h1 h2, iI_T h3 h4]
theorem iI_le {a b : Int} (h1 : -2147483648 ≤ a) (h2 : a < 2147483648) (h3 : -2147483648 ≤ b) (h4 : b < 2147483648) : iI a ≤ iI b ↔ a ≤ b := by rw [Int32.le_iff_toInt_le, iI_T h1 h2, iI_T h3 h4]
theorem iI_eq {a b : Int} (h1 : -2147483648 ≤ a) (h2 : a < 2147483648) (h3 : -2147483648 ≤ b) (h4 : b < 2147483648) : iI a = iI b ↔ a = b := by rw [← Int32.toInt_inj, iI_T h1 h2, iI_T h3 h4]
theorem lI_lt {a b : Int} (h1 : -9223372036854775808 ≤ a) (h2 : a < 9223372036854775808) (h3 : -9223372036854775808 ≤ b) (h4 : b < 9223372036854775808) : lI a < lI b ↔ a < b := by rw [Int64.lt_iff_toInt_lt, lI_T h1 h2, lI_T h3 h4]
theorem lI_le {a b : Int} (h1 : -9223372036854775808 ≤ a) (h2 : a < 9223372036854775808) (h3 : -9223372036854775808 ≤ b) (h4 : b < 9223372036854775808) : lI a ≤ lI b ↔ a ≤ b := by rw [Int64.le_iff_toInt_le, lI_T h1 h2, lI_T h3 h4]
theorem lI_eq {a b : Int} (h1 : -9223372036854775808 ≤ a) (h2 : a < 9223372036854775808) (h3 : -9223372036854775808 ≤ b) (h4 : b < 9223372036854775808) : lI a = lI b ↔ a = b := by rw [← Int64.toInt_inj, lI_T h1 h2, lI_T h3 h4]
theorem iI_l {a : Int} (h1 : -2147483648 ≤ a) (h2 : a < 2147483648) : (iI a).toInt64 = lI a := by
  rw [← Int64.toInt_inj, Int32.toInt_toInt64, iI_T h1 h2, lI_T (by omega) (by omega)]
theorem lI_i (a : Int) : (lI a).toInt32 = iI a := Int64.toInt32_ofInt
theorem iI_nat {a : Int} (h1 : -2147483648 ≤ a) (h2 : a < 2147483648) : (iI a).toNatClampNeg = a.toNat := by
  show (iI a).toInt.toNat = _
  rw [iI_T h1 h2]
theorem iI_in {a : Int} {n : Nat} (h1 : -2147483648 ≤ a) (h2 : a < 2147483648) : vp_in (iI a) n ↔ 0 ≤ a ∧ a < n := by rw [vp_in_iff, iI_T h1 h2]
theorem iI_div {a b : Int} (h1 : 0 ≤ a) (h2 : a < 2147483648) (h3 : 0 < b) (h4 : b < 2147483648) : iI a / iI b = iI (a / b) := by
  rw [← Int32.toInt_inj, Int32.toInt_div_of_ne_right _ _ (fun q => by have := congrArg Int32.toInt q; rw [iI_T (by omega) h4] at this; simp at this; omega), iI_T (by omega) h2, iI_T (by omega) h4, Int.tdiv_eq_ediv_of_nonneg h1, iI_T]
  · have := Int.ediv_nonneg h1 (Int.le_of_lt h3); omega
  · exact Int.lt_of_le_of_lt (Int.ediv_le_self b h1) h2
theorem iI_rem {a b : Int} (h1 : 0 ≤ a) (h2 : a < 2147483648) (h3 : 0 < b) (h4 : b < 2147483648) : nc_irem (iI a) (iI b) = iI (a % b) := by
  unfold nc_irem
  rw [iI_div h1 h2 h3 h4, iI_mul, iI_sub]
  congr 1
  have := Int.mul_ediv_add_emod a b
  rw [Int.mul_comm] at this
  omega
theorem lI_tdiv {a b : Int} (h1 : -9223372036854775808 ≤ a) (h2 : a < 9223372036854775808) (h3 : 0 < b) (h4 : b < 9223372036854775808) : lI a / lI b = lI (a.tdiv b) := by
  have hb : (lI b) ≠ -1 := fun q => by have := congrArg Int64.toInt q; rw [lI_T (by omega) h4] at this; simp at this; omega
  rw [← lI_self (lI a / lI b), Int64.toInt_div_of_ne_right _ _ hb, lI_T h1 h2, lI_T (by omega) h4]
theorem lI_div {a b : Int} (h1 : 0 ≤ a) (h2 : a < 9223372036854775808) (h3 : 0 < b) (h4 : b < 9223372036854775808) : lI a / lI b = lI (a / b) := by
  rw [lI_tdiv (by omega) h2 h3 h4, Int.tdiv_eq_ediv_of_nonneg h1]
theorem lI_trem {a b : Int} (h1 : -9223372036854775808 ≤ a) (h2 : a < 9223372036854775808) (h3 : 0 < b) (h4 : b < 9223372036854775808) : nc_lrem (lI a) (lI b) = lI (a.tmod b) := by
  unfold nc_lrem
  rw [lI_tdiv h1 h2 h3 h4, lI_mul, lI_sub]
  congr 1
  have := Int.mul_tdiv_add_tmod a b
  rw [Int.mul_comm] at this
  omega
theorem lI_rem {a b : Int} (h1 : 0 ≤ a) (h2 : a < 9223372036854775808) (h3 : 0 < b) (h4 : b < 9223372036854775808) : nc_lrem (lI a) (lI b) = lI (a % b) := by
  rw [lI_trem (by omega) h2 h3 h4, Int.tmod_eq_emod_of_nonneg h1]
theorem nc_b_eq0 (c : Bool) : nc_b c = 0 ↔ c = false := by cases c <;> decide
theorem nc_b_z (c : Bool) : nc_z (nc_b c) := by cases c <;> rfl
theorem nc_b_t : nc_b true = 1 := rfl
theorem nc_b_f : nc_b false = 0 := rfl
theorem nc_b_i (c : Bool) : nc_b c = iI (if c then 1 else 0) := by cases c <;> rfl
