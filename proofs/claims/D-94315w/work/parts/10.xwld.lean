/-! the class: its object, its arrays, its two states with their rows; behind them the cells of the texts -/
set_option maxRecDepth 100000
def x_tys (dd : nc_dd) : List (ClassId × FieldType) := [(dd 0, .int), (dd 1, .long), (dd 2, .boolean), (dd 3, .byte), (dd 4, .array .int), (dd 5, .object "NumberComes$Text"), (dd 6, .object "java/lang/Object")]
def xfs (ad : Nat → Nat) (σ : nc_S) : List Value := [.ref (ad 11), .ref (ad 84), .ref (ad 1), .int (σ.1 0 3), .int (σ.1 0 4), .int (σ.1 0 5), .ref (ad 2), .long (σ.2 0 7), .long (σ.2 0 8), .long (σ.2 0 9), .ref (ad 3), .ref (ad 4), .ref (ad 5), .ref (ad 6), .ref (ad 7), .ref (ad 8), .ref (ad 9), .ref (ad 10)]
def xsf (ad : Nat → Nat) (b : Nat) : List Value := [.ref (ad (b + 1)), .ref (ad (b + 2)), .ref (ad (b + 3)), .ref (ad (b + 4)), .ref (ad (b + 5)), .ref (ad (b + 6)), .ref (ad (b + 7)), .ref (ad (b + 8)), .ref (ad (b + 9)), .ref (ad (b + 10))]
/-- kinds: 0 an object, 1 ints, 2 longs, 3 booleans, 4 bytes, 5 rows, 6 texts; of a state by the place in it -/
def xs_kd (r : Nat) : Nat := if r = 0 then 0 else if r ≤ 5 then 1 else if r ≤ 8 then 5 else if r = 9 then 2 else if r = 10 then 6 else 1
def xs_ln (r : Nat) : Nat := if r = 1 then 9 else if r ≤ 4 then 12 else if r = 5 then 6 else if r = 6 then 12 else if r = 7 then 20 else if r ≤ 9 then 30 else if r = 10 then 4 else if r ≤ 22 then 4 else 2
def xs_gb (r : Nat) : Nat := if r = 6 then 11 else if r = 7 then 23 else 43
def x_b (k : Nat) : Nat := if k < 84 then 11 else 84
def x_kd (k : Nat) : Nat := if k = 0 then 0 else if k = 1 then 4 else if k = 3 then 2 else if k = 5 then 3 else if k < 11 then 1 else xs_kd (k - x_b k)
def x_ln (k : Nat) : Nat := if k = 1 then 300 else if k = 2 then 7 else if k = 3 then 12 else if k ≤ 5 then 64 else if k = 6 then 5040 else if k = 7 then 12 else if k ≤ 9 then 4096 else if k = 10 then 144 else xs_ln (k - x_b k)
def x_ce (ad : Nat → Nat) (dd : nc_dd) (tx : Nat → Nat → Option Nat) (σ : nc_S) (k : Nat) : va_E :=
  if x_kd k = 0 then (if k = 0 then .inr (0, xfs ad σ) else .inr (1, xsf ad k))
  else if x_kd k = 5 then .inl (dd 4, x_ln k, .inr (.inr (.inr (.inr fun i => some (ad (x_b k + xs_gb (k - x_b k) + i))))))
  else if x_kd k = 6 then .inl (dd 5, x_ln k, .inr (.inr (.inr (.inr (tx k)))))
  else if x_kd k = 2 then .inl (dd 1, x_ln k, .inr (.inl (σ.2 k)))
  else .inl (if x_kd k = 1 then dd 0 else if x_kd k = 3 then dd 2 else dd 3, x_ln k, .inl (σ.1 k))
def xw (ad : Nat → Nat) (dd : nc_dd) (tx : Nat → Nat → Option Nat) (T : va_W) (σ : nc_S) : va_W := nc_row 157 ad (x_ce ad dd tx σ) ++ T
section XWORLD
variable {ad : Nat → Nat} {dd : nc_dd} {tx : Nat → Nat → Option Nat} {T : va_W}
theorem xO : ∀ σ, (xw ad dd tx T σ)[0]? = some (ad 0, .inr (0, xfs ad σ)) := fun σ => nc_row_app_get (by decide)
theorem xOs : ∀ σ, (xw ad dd tx T σ)[11]? = some (ad 11, .inr (1, xsf ad 11)) := fun σ => nc_row_app_get (by decide)
theorem xOi : ∀ σ, (xw ad dd tx T σ)[84]? = some (ad 84, .inr (1, xsf ad 84)) := fun σ => nc_row_app_get (by decide)
theorem x_fsI {σ : nc_S} {k j : Nat} {v : Int32} (h : k ≠ 0) : xfs ad (nc_I σ k j v) = xfs ad σ := by
  simp only [xfs, nc_I, va_up, if_neg (Ne.symm h)]
theorem x_fsL {σ : nc_S} {k j : Nat} {v : Int64} (h : k ≠ 0) : xfs ad (nc_L σ k j v) = xfs ad σ := by
  simp only [xfs, nc_L, va_up, if_neg (Ne.symm h)]
theorem xI {k : Nat} (h0 : x_kd k ≠ 0) (h5 : x_kd k ≠ 5) (h6 : x_kd k ≠ 6) (h2 : x_kd k ≠ 2) (hk : k < 157) : nc_isI (xw ad dd tx T) k (ad k) (if x_kd k = 1 then dd 0 else if x_kd k = 3 then dd 2 else dd 3) (x_ln k) := by
  have hk0 : k ≠ 0 := fun q => h0 (by rw [q]; rfl)
  refine ⟨fun σ => ?_, fun σ j v => ?_⟩
  · unfold xw
    rw [nc_row_app_get hk]
    simp only [x_ce, if_neg h0, if_neg h5, if_neg h6, if_neg h2]
  · unfold xw
    rw [nc_row_app_set hk]
    congr 1
    apply nc_row_congr
    intro i _
    by_cases hi : i = k
    · subst hi
      simp only [va_up, if_pos, x_ce, if_neg h0, if_neg h5, if_neg h6, if_neg h2, nc_I]
    · simp only [va_up, if_neg hi, x_ce, x_fsI hk0]
      simp only [nc_I, va_up, if_neg hi]
theorem xL {k : Nat} (h2 : x_kd k = 2) (hk : k < 157) : nc_isL (xw ad dd tx T) k (ad k) (dd 1) (x_ln k) := by
  have h0 : x_kd k ≠ 0 := by omega
  have h5 : x_kd k ≠ 5 := by omega
  have h6 : x_kd k ≠ 6 := by omega
  have hk0 : k ≠ 0 := fun q => h0 (by rw [q]; rfl)
  refine ⟨fun σ => ?_, fun σ j v => ?_⟩
  · unfold xw
    rw [nc_row_app_get hk]
    simp only [x_ce, if_neg h0, if_neg h5, if_neg h6, if_pos h2]
  · unfold xw
    rw [nc_row_app_set hk]
    congr 1
    apply nc_row_congr
    intro i _
    by_cases hi : i = k
    · subst hi
      simp only [va_up, if_pos, x_ce, if_neg h0, if_neg h5, if_neg h6, if_pos h2, nc_L]
    · simp only [va_up, if_neg hi, x_ce, x_fsL hk0]
      simp only [nc_L, va_up, if_neg hi]
theorem x_set {σ σ' : nc_S} {fs : List Value} (h1 : fs = xfs ad σ') (h2 : ∀ k, k ≠ 0 → σ'.1 k = σ.1 k ∧ σ'.2 k = σ.2 k) : (xw ad dd tx T σ).set 0 (ad 0, .inr (0, fs)) = xw ad dd tx T σ' := by
  unfold xw
  rw [nc_row_app_set (by decide)]
  congr 1
  apply nc_row_congr
  intro i _
  by_cases hi : i = 0
  · subst hi
    simp only [va_up, if_pos, x_ce, h1, x_kd]
  · simp only [va_up, if_neg hi, x_ce, (h2 i hi).1, (h2 i hi).2]
theorem x_setI {σ : nc_S} {j : Nat} {v : Int32} {fs : List Value} (h1 : fs = xfs ad (nc_I σ 0 j v)) : (xw ad dd tx T σ).set 0 (ad 0, .inr (0, fs)) = xw ad dd tx T (nc_I σ 0 j v) := x_set h1 (fun k hk => ⟨if_neg hk, rfl⟩)
theorem x_setL {σ : nc_S} {j : Nat} {v : Int64} {fs : List Value} (h1 : fs = xfs ad (nc_L σ 0 j v)) : (xw ad dd tx T σ).set 0 (ad 0, .inr (0, fs)) = xw ad dd tx T (nc_L σ 0 j v) := x_set h1 (fun k hk => ⟨rfl, if_neg hk⟩)
theorem x_grid {b n w i : Nat} (h : (b = 22 ∧ n = 12 ∧ w = 4) ∨ (b = 34 ∧ n = 20 ∧ w = 2) ∨ (b = 54 ∧ n = 30 ∧ w = 2) ∨ (b = 95 ∧ n = 12 ∧ w = 4) ∨ (b = 107 ∧ n = 20 ∧ w = 2) ∨ (b = 127 ∧ n = 30 ∧ w = 2)) (hi : i < n) : x_kd (b + i) = 1 ∧ x_ln (b + i) = w ∧ b + i < 157 := by
  rcases h with h | h | h | h | h | h <;> obtain ⟨rfl, rfl, rfl⟩ := h
  · exact (show ∀ i, i < 12 → x_kd (22 + i) = 1 ∧ x_ln (22 + i) = 4 ∧ 22 + i < 157 by decide) i hi
  · exact (show ∀ i, i < 20 → x_kd (34 + i) = 1 ∧ x_ln (34 + i) = 2 ∧ 34 + i < 157 by decide) i hi
  · exact (show ∀ i, i < 30 → x_kd (54 + i) = 1 ∧ x_ln (54 + i) = 2 ∧ 54 + i < 157 by decide) i hi
  · exact (show ∀ i, i < 12 → x_kd (95 + i) = 1 ∧ x_ln (95 + i) = 4 ∧ 95 + i < 157 by decide) i hi
  · exact (show ∀ i, i < 20 → x_kd (107 + i) = 1 ∧ x_ln (107 + i) = 2 ∧ 107 + i < 157 by decide) i hi
  · exact (show ∀ i, i < 30 → x_kd (127 + i) = 1 ∧ x_ln (127 + i) = 2 ∧ 127 + i < 157 by decide) i hi
theorem xG {b n w i : Nat} (h : (b = 22 ∧ n = 12 ∧ w = 4) ∨ (b = 34 ∧ n = 20 ∧ w = 2) ∨ (b = 54 ∧ n = 30 ∧ w = 2) ∨ (b = 95 ∧ n = 12 ∧ w = 4) ∨ (b = 107 ∧ n = 20 ∧ w = 2) ∨ (b = 127 ∧ n = 30 ∧ w = 2)) (hi : i < n) : nc_isI (xw ad dd tx T) (b + i) (ad (b + i)) (dd 0) w := by
  obtain ⟨h1, h2, h3⟩ := x_grid h hi
  have := xI (ad := ad) (dd := dd) (tx := tx) (T := T) (k := b + i) (by omega) (by omega) (by omega) (by omega) h3
  rw [if_pos h1, h2] at this
  exact this
theorem x_lt {i : Int32} {n : Nat} (h : vp_in i n) : i.toNatClampNeg < n := Nat.not_le.mp fun q => h (Or.inr q)
theorem xG_need {i : Int32} (h : vp_in i 12) : nc_isI (xw ad dd tx T) (22 + i.toNatClampNeg) (ad (22 + i.toNatClampNeg)) (dd 0) 4 := xG (by omega) (x_lt h)
theorem xg_need : ∀ σ, (xw ad dd tx T σ)[17]? = some (ad 17, .inl (dd 4, 12, .inr (.inr (.inr (.inr fun i => some (ad (22 + i))))))) := fun σ => nc_row_app_get (by decide)
theorem xG_heard {i : Int32} (h : vp_in i 20) : nc_isI (xw ad dd tx T) (34 + i.toNatClampNeg) (ad (34 + i.toNatClampNeg)) (dd 0) 2 := xG (by omega) (x_lt h)
theorem xg_heard : ∀ σ, (xw ad dd tx T σ)[18]? = some (ad 18, .inl (dd 4, 20, .inr (.inr (.inr (.inr fun i => some (ad (34 + i))))))) := fun σ => nc_row_app_get (by decide)
theorem xG_talk {i : Int32} (h : vp_in i 30) : nc_isI (xw ad dd tx T) (54 + i.toNatClampNeg) (ad (54 + i.toNatClampNeg)) (dd 0) 2 := xG (by omega) (x_lt h)
theorem xg_talk : ∀ σ, (xw ad dd tx T σ)[19]? = some (ad 19, .inl (dd 4, 30, .inr (.inr (.inr (.inr fun i => some (ad (54 + i))))))) := fun σ => nc_row_app_get (by decide)
theorem xt_now : ∀ σ, (xw ad dd tx T σ)[21]? = some (ad 21, .inl (dd 5, 4, .inr (.inr (.inr (.inr (tx 21)))))) := fun σ => nc_row_app_get (by decide)
theorem xI1 : nc_isI (xw ad dd tx T) 1 (ad 1) (dd 3) 300 := xI (by decide) (by decide) (by decide) (by decide) (by decide)
theorem xI2 : nc_isI (xw ad dd tx T) 2 (ad 2) (dd 0) 7 := xI (by decide) (by decide) (by decide) (by decide) (by decide)
theorem xI3 : nc_isL (xw ad dd tx T) 3 (ad 3) (dd 1) 12 := xL rfl (by decide)
theorem xI4 : nc_isI (xw ad dd tx T) 4 (ad 4) (dd 0) 64 := xI (by decide) (by decide) (by decide) (by decide) (by decide)
theorem xI5 : nc_isI (xw ad dd tx T) 5 (ad 5) (dd 2) 64 := xI (by decide) (by decide) (by decide) (by decide) (by decide)
theorem xI6 : nc_isI (xw ad dd tx T) 6 (ad 6) (dd 0) 5040 := xI (by decide) (by decide) (by decide) (by decide) (by decide)
theorem xI7 : nc_isI (xw ad dd tx T) 7 (ad 7) (dd 0) 12 := xI (by decide) (by decide) (by decide) (by decide) (by decide)
theorem xI8 : nc_isI (xw ad dd tx T) 8 (ad 8) (dd 0) 4096 := xI (by decide) (by decide) (by decide) (by decide) (by decide)
theorem xI9 : nc_isI (xw ad dd tx T) 9 (ad 9) (dd 0) 4096 := xI (by decide) (by decide) (by decide) (by decide) (by decide)
theorem xI10 : nc_isI (xw ad dd tx T) 10 (ad 10) (dd 0) 144 := xI (by decide) (by decide) (by decide) (by decide) (by decide)
theorem xI12 : nc_isI (xw ad dd tx T) 12 (ad 12) (dd 0) 9 := xI (by decide) (by decide) (by decide) (by decide) (by decide)
theorem xI85 : nc_isI (xw ad dd tx T) 85 (ad 85) (dd 0) 9 := xI (by decide) (by decide) (by decide) (by decide) (by decide)
theorem xI13 : nc_isI (xw ad dd tx T) 13 (ad 13) (dd 0) 12 := xI (by decide) (by decide) (by decide) (by decide) (by decide)
theorem xI86 : nc_isI (xw ad dd tx T) 86 (ad 86) (dd 0) 12 := xI (by decide) (by decide) (by decide) (by decide) (by decide)
theorem xI14 : nc_isI (xw ad dd tx T) 14 (ad 14) (dd 0) 12 := xI (by decide) (by decide) (by decide) (by decide) (by decide)
theorem xI87 : nc_isI (xw ad dd tx T) 87 (ad 87) (dd 0) 12 := xI (by decide) (by decide) (by decide) (by decide) (by decide)
theorem xI15 : nc_isI (xw ad dd tx T) 15 (ad 15) (dd 0) 12 := xI (by decide) (by decide) (by decide) (by decide) (by decide)
theorem xI88 : nc_isI (xw ad dd tx T) 88 (ad 88) (dd 0) 12 := xI (by decide) (by decide) (by decide) (by decide) (by decide)
theorem xI16 : nc_isI (xw ad dd tx T) 16 (ad 16) (dd 0) 6 := xI (by decide) (by decide) (by decide) (by decide) (by decide)
theorem xI89 : nc_isI (xw ad dd tx T) 89 (ad 89) (dd 0) 6 := xI (by decide) (by decide) (by decide) (by decide) (by decide)
theorem xI20 : nc_isL (xw ad dd tx T) 20 (ad 20) (dd 1) 30 := xL rfl (by decide)
theorem xI93 : nc_isL (xw ad dd tx T) 93 (ad 93) (dd 1) 30 := xL rfl (by decide)
theorem xP3 (σ : nc_S) (v : Int32) : (xw ad dd tx T σ).set 0 (ad 0, .inr (0, (xfs ad σ).set 3 (.int v))) = xw ad dd tx T (nc_I σ 0 3 v) := x_setI rfl
theorem xP4 (σ : nc_S) (v : Int32) : (xw ad dd tx T σ).set 0 (ad 0, .inr (0, (xfs ad σ).set 4 (.int v))) = xw ad dd tx T (nc_I σ 0 4 v) := x_setI rfl
theorem xP5 (σ : nc_S) (v : Int32) : (xw ad dd tx T σ).set 0 (ad 0, .inr (0, (xfs ad σ).set 5 (.int v))) = xw ad dd tx T (nc_I σ 0 5 v) := x_setI rfl
theorem xP7 (σ : nc_S) (v : Int64) : (xw ad dd tx T σ).set 0 (ad 0, .inr (0, (xfs ad σ).set 7 (.long v))) = xw ad dd tx T (nc_L σ 0 7 v) := x_setL rfl
theorem xP8 (σ : nc_S) (v : Int64) : (xw ad dd tx T σ).set 0 (ad 0, .inr (0, (xfs ad σ).set 8 (.long v))) = xw ad dd tx T (nc_L σ 0 8 v) := x_setL rfl
theorem xP9 (σ : nc_S) (v : Int64) : (xw ad dd tx T σ).set 0 (ad 0, .inr (0, (xfs ad σ).set 9 (.long v))) = xw ad dd tx T (nc_L σ 0 9 v) := x_setL rfl
end XWORLD
/-- links of nest mates: words that do not ride in the lists -/
def x_nest : List Cond := [.fieldLinkNest "NumberComes" 64 "NumberComes$State" "n" "[I" "NumberComes", .fieldLinkNest "NumberComes" 86 "NumberComes$State" "number" "[I" "NumberComes", .fieldLinkNest "NumberComes" 89 "NumberComes$State" "first" "[I" "NumberComes", .fieldLinkNest "NumberComes" 92 "NumberComes$State" "near" "[I" "NumberComes", .fieldLinkNest "NumberComes" 299 "NumberComes$State" "given" "[I" "NumberComes", .fieldLinkNest "NumberComes" 302 "NumberComes$State" "need" "[[I" "NumberComes", .fieldLinkNest "NumberComes" 346 "NumberComes$State" "heard" "[[I" "NumberComes", .fieldLinkNest "NumberComes" 280 "NumberComes$State" "talk" "[[I" "NumberComes", .fieldLinkNest "NumberComes" 277 "NumberComes$State" "hour" "[J" "NumberComes", .fieldLinkNest "NumberComes" 114 "NumberComes$State" "text" "[LNumberComes$Text;" "NumberComes", .fieldLinkNest "NumberComes$Tokens" 121 "NumberComes$Text" "roll" "Ljava/util/ArrayList;" "NumberComes", .fieldLinkNest "NumberComes" 366 "NumberComes$Text" "roll" "Ljava/util/ArrayList;" "NumberComes", .fieldLinkNest "NumberComes$Tokens" 101 "NumberComes$Text" "bars" "Ljava/util/ArrayList;" "NumberComes", .fieldLinkNest "NumberComes" 136 "NumberComes$Text" "bars" "Ljava/util/ArrayList;" "NumberComes", .fieldLinkNest "NumberComes$Tokens" 86 "NumberComes$Text" "worth" "LNumberComes$Sum;" "NumberComes", .fieldLinkNest "NumberComes" 311 "NumberComes$Text" "worth" "LNumberComes$Sum;" "NumberComes", .fieldLinkNest "NumberComes$Tokens" 90 "NumberComes$Text" "clauses" "I" "NumberComes", .fieldLinkNest "NumberComes" 129 "NumberComes$Wrong" "fault" "I" "NumberComes", .fieldLinkNest "NumberComes" 130 "NumberComes$Wrong" "place" "I" "NumberComes"]
theorem q162_n : (Cond.fieldLinkNest "NumberComes" 64 "NumberComes$State" "n" "[I" "NumberComes") ∈ x_nest := List.mem_of_getElem? (i := 0) rfl
theorem q164_n : (Cond.fieldLinkNest "NumberComes" 86 "NumberComes$State" "number" "[I" "NumberComes") ∈ x_nest := List.mem_of_getElem? (i := 1) rfl
theorem q166_n : (Cond.fieldLinkNest "NumberComes" 89 "NumberComes$State" "first" "[I" "NumberComes") ∈ x_nest := List.mem_of_getElem? (i := 2) rfl
theorem q168_n : (Cond.fieldLinkNest "NumberComes" 92 "NumberComes$State" "near" "[I" "NumberComes") ∈ x_nest := List.mem_of_getElem? (i := 3) rfl
theorem q170_n : (Cond.fieldLinkNest "NumberComes" 299 "NumberComes$State" "given" "[I" "NumberComes") ∈ x_nest := List.mem_of_getElem? (i := 4) rfl
theorem q172_n : (Cond.fieldLinkNest "NumberComes" 302 "NumberComes$State" "need" "[[I" "NumberComes") ∈ x_nest := List.mem_of_getElem? (i := 5) rfl
theorem q174_n : (Cond.fieldLinkNest "NumberComes" 346 "NumberComes$State" "heard" "[[I" "NumberComes") ∈ x_nest := List.mem_of_getElem? (i := 6) rfl
theorem q176_n : (Cond.fieldLinkNest "NumberComes" 280 "NumberComes$State" "talk" "[[I" "NumberComes") ∈ x_nest := List.mem_of_getElem? (i := 7) rfl
theorem q178_n : (Cond.fieldLinkNest "NumberComes" 277 "NumberComes$State" "hour" "[J" "NumberComes") ∈ x_nest := List.mem_of_getElem? (i := 8) rfl
theorem q180_n : (Cond.fieldLinkNest "NumberComes" 114 "NumberComes$State" "text" "[LNumberComes$Text;" "NumberComes") ∈ x_nest := List.mem_of_getElem? (i := 9) rfl
theorem q399_n : (Cond.fieldLinkNest "NumberComes$Tokens" 121 "NumberComes$Text" "roll" "Ljava/util/ArrayList;" "NumberComes") ∈ x_nest := List.mem_of_getElem? (i := 10) rfl
theorem q400_n : (Cond.fieldLinkNest "NumberComes" 366 "NumberComes$Text" "roll" "Ljava/util/ArrayList;" "NumberComes") ∈ x_nest := List.mem_of_getElem? (i := 11) rfl
theorem q402_n : (Cond.fieldLinkNest "NumberComes$Tokens" 101 "NumberComes$Text" "bars" "Ljava/util/ArrayList;" "NumberComes") ∈ x_nest := List.mem_of_getElem? (i := 12) rfl
theorem q403_n : (Cond.fieldLinkNest "NumberComes" 136 "NumberComes$Text" "bars" "Ljava/util/ArrayList;" "NumberComes") ∈ x_nest := List.mem_of_getElem? (i := 13) rfl
theorem q404_n : (Cond.fieldLinkNest "NumberComes$Tokens" 86 "NumberComes$Text" "worth" "LNumberComes$Sum;" "NumberComes") ∈ x_nest := List.mem_of_getElem? (i := 14) rfl
theorem q405_n : (Cond.fieldLinkNest "NumberComes" 311 "NumberComes$Text" "worth" "LNumberComes$Sum;" "NumberComes") ∈ x_nest := List.mem_of_getElem? (i := 15) rfl
theorem q406_n : (Cond.fieldLinkNest "NumberComes$Tokens" 90 "NumberComes$Text" "clauses" "I" "NumberComes") ∈ x_nest := List.mem_of_getElem? (i := 16) rfl
theorem q534_n : (Cond.fieldLinkNest "NumberComes" 129 "NumberComes$Wrong" "fault" "I" "NumberComes") ∈ x_nest := List.mem_of_getElem? (i := 17) rfl
theorem q536_n : (Cond.fieldLinkNest "NumberComes" 130 "NumberComes$Wrong" "place" "I" "NumberComes") ∈ x_nest := List.mem_of_getElem? (i := 18) rfl
theorem x_nest_ok : ∀ w ∈ x_nest, w.onTables = true := by decide +kernel
theorem x_nest_warm {s U : State} (hW : s.WarmedH U.vm) (h : ∀ w ∈ x_nest, va_Nw w s) : ∀ w ∈ x_nest, va_Nw w U := by
  intro w hw
  have h1 := h w hw
  simp only [x_nest, List.mem_cons, List.not_mem_nil, or_false] at hw
  rcases hw with rfl | rfl | rfl | rfl | rfl | rfl | rfl | rfl | rfl | rfl | rfl | rfl | rfl | rfl | rfl | rfl | rfl | rfl | rfl <;> exact va_Nw.warmF hW h1
def x_of : MethodName := ⟨"NumberComes$Sum", "of", "([I)J"⟩
def x_is : MethodName := ⟨"NumberComes$Asked", "is", "([I)Z"⟩
/-- the interfaces' entries -/
def x_F (U : State) : Prop := va_Fw RX7 x_of yX7_of U ∧ va_Fw RX8 x_of yX8_of U ∧ va_Fw RX9 x_of yX9_of U ∧ va_Fw RX10 x_of yX10_of U ∧ va_Fw RX6 x_is yX6_is U ∧ va_Fw RX11 x_is yX11_is U ∧ va_Fw RX12 x_is yX12_is U
/-- the texts that are told lie in the cells T -/
def x_tt (dd : nc_dd) (tx : Nat → Option Nat) (T : va_W) (tt : Nat → Option nc_text) : Prop := ∀ j : Nat, j < 4 → match tt j with
  | none => tx j = none
  | some t => ∃ a : Nat, tx j = some a ∧ t_text dd T a t
/-- what a method of the class finds beside its cells: the texts, the boxes, the interfaces -/
def x_E2 (dd : nc_dd) (tx : Nat → Nat → Option Nat) (T : va_W) (tt : Nat → Option nc_text) (A : Nat → Prop) (U : State) (H : Heap) : Prop := x_tt dd (tx 21) T tt ∧ x_F U ∧ vb_C (fun k => dd (100 + k)) A U H
def x_E (dd : nc_dd) (tx : Nat → Nat → Option Nat) (T : va_W) (tt : Nat → Option nc_text) (A : Nat → Prop) (U : State) (H : Heap) : Prop := (∀ w ∈ x_nest, va_Nw w U) ∧ x_E2 dd tx T tt A U H
theorem x_F_moved {u U : State} (hvm : u.vm.Alike U.vm) (h : x_F u) : x_F U := by
  have h1 : x_of.cls ≠ "java/lang/invoke/MethodHandle" ∧ x_of.cls ≠ "java/lang/invoke/VarHandle" := by decide
  have h2 : x_is.cls ≠ "java/lang/invoke/MethodHandle" ∧ x_is.cls ≠ "java/lang/invoke/VarHandle" := by decide
  obtain ⟨a, b, c, d, e, f, g⟩ := h
  exact ⟨va_Fw.moved h1 hvm a, va_Fw.moved h1 hvm b, va_Fw.moved h1 hvm c, va_Fw.moved h1 hvm d, va_Fw.moved h2 hvm e, va_Fw.moved h2 hvm f, va_Fw.moved h2 hvm g⟩
theorem x_stay2 {dd : nc_dd} {tx : Nat → Nat → Option Nat} {T : va_W} {tt : Nat → Option nc_text} : nc_stay (x_E2 dd tx T tt) :=
  ⟨fun A s U H hW h => ⟨h.1, x_F_moved hW.alike h.2.1, vb_C.moved hW.alike h.2.2⟩, fun A U H g mk a h => ⟨h.1, x_F_moved (u := U) (U := U.calling g mk a) (Vm.Alike.refl U.vm) h.2.1, vb_C.moved (u := U) (U := U.calling g mk a) (Vm.Alike.refl U.vm) h.2.2⟩, fun A U H H1 hz hk h => ⟨h.1, h.2.1, h.2.2.kept hk⟩, fun A B U H hAB h => ⟨h.1, h.2.1, h.2.2.narrow hAB⟩⟩
theorem x_stay {dd : nc_dd} {tx : Nat → Nat → Option Nat} {T : va_W} {tt : Nat → Option nc_text} : nc_stay (x_E dd tx T tt) :=
  ⟨fun A s U H hW h => ⟨x_nest_warm hW h.1, x_stay2.1 A s U H hW h.2⟩, fun A U H g mk a h => ⟨fun w hw => va_Nw.same (u := U) (U := U.calling g mk a) (x_nest_ok w hw) rfl (h.1 w hw), x_stay2.2.1 A U H g mk a h.2⟩, fun A U H H1 hz hk h => ⟨h.1, x_stay2.2.2.1 A U H H1 hz hk h.2⟩, fun A B U H hAB h => ⟨h.1, x_stay2.2.2.2 A B U H hAB h.2⟩⟩
theorem x_nw {dd : nc_dd} {tx : Nat → Nat → Option Nat} {T : va_W} {tt : Nat → Option nc_text} {A : Nat → Prop} {s : State} {H : Heap} {args : Array Value} (h : x_E dd tx T tt A s H) {w : Cond} (hw : w ∈ x_nest) : w.before args s = true := va_Nw.use (x_nest_ok w hw) (h.1 w hw)
