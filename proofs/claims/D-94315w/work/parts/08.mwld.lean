set_option maxRecDepth 100000
/-! the reference: its object and its arrays -/
abbrev nc_cl : List vw_C := [(RX0, TX0, 18), (RX1, TX1, 10), (RX2, TX2, 46), (RX3, TX3, 8), (RX4, TX4, 4), (RX5, TX5, 8), (RX6, TX6, 1), (RX7, TX7, 3), (RX8, TX8, 1), (RX9, TX9, 1), (RX10, TX10, 1), (RX11, TX11, 3), (RX12, TX12, 2), (RX13, TX13, 4), (RJ2, TJ2, 3), (RJ12, TJ12, 1)]
def m_ln : Nat → Nat := fun k => match k with
  | 1 => 262
  | 2 => 262
  | 3 => 30
  | 4 => 30
  | 5 => 2800
  | 6 => 300
  | 7 => 160
  | 8 => 7
  | 9 => 330
  | 10 => 330
  | 11 => 12
  | 12 => 12
  | 13 => 720
  | 14 => 11988
  | 15 => 12
  | 16 => 12
  | 17 => 4096
  | 18 => 3
  | 19 => 3
  | 20 => 3
  | 21 => 4096
  | 22 => 5
  | 23 => 5
  | 24 => 25
  | 25 => 4096
  | 26 => 4096
  | 27 => 144
  | _ => 0
def m_kd : Nat → Nat := fun k => match k with
  | 1 => 1
  | 2 => 1
  | 3 => 2
  | 4 => 2
  | 5 => 1
  | 6 => 1
  | 7 => 1
  | 8 => 1
  | 9 => 2
  | 10 => 3
  | 11 => 1
  | 12 => 1
  | 13 => 3
  | 14 => 3
  | 15 => 1
  | 16 => 2
  | 17 => 2
  | 18 => 1
  | 19 => 1
  | 20 => 1
  | 21 => 3
  | 22 => 1
  | 23 => 1
  | 24 => 1
  | 25 => 2
  | 26 => 1
  | 27 => 2
  | _ => 0
def mfs (ad : Nat → Nat) (σ : nc_S) : List Value := [.ref (ad 1), .ref (ad 2), .ref (ad 3), .ref (ad 4), .ref (ad 5), .ref (ad 6), .int (σ.1 0 6), .int (σ.1 0 7), .int (σ.1 0 8), .int (σ.1 0 9), .int (σ.1 0 10), .int (σ.1 0 11), .int (σ.1 0 12), .long (σ.2 0 13), .int (σ.1 0 14), .int (σ.1 0 15), .int (σ.1 0 16), .int (σ.1 0 17), .ref (ad 7), .int (σ.1 0 19), .int (σ.1 0 20), .int (σ.1 0 21), .int (σ.1 0 22), .int (σ.1 0 23), .ref (ad 8), .ref (ad 9), .ref (ad 10), .ref (ad 11), .ref (ad 12), .ref (ad 13), .ref (ad 14), .long (σ.2 0 31), .long (σ.2 0 32), .ref (ad 15), .ref (ad 16), .ref (ad 17), .ref (ad 18), .ref (ad 19), .ref (ad 20), .ref (ad 21), .ref (ad 22), .ref (ad 23), .ref (ad 24), .ref (ad 25), .ref (ad 26), .ref (ad 27)]
def m_ce (ad : Nat → Nat) (dI dL dZ : ClassId) (σ : nc_S) (k : Nat) : va_E := if k = 0 then .inr (2, mfs ad σ) else if m_kd k = 2 then .inl (dL, m_ln k, .inr (.inl (σ.2 k))) else .inl (if m_kd k = 3 then dZ else dI, m_ln k, .inl (σ.1 k))
def mw (ad : Nat → Nat) (dI dL dZ : ClassId) (σ : nc_S) : va_W := nc_row 28 ad (m_ce ad dI dL dZ σ)
def m_tys (dI dL dZ : ClassId) : List (ClassId × FieldType) := [(dI, .int), (dL, .long), (dZ, .boolean)]
section MWORLD
variable {ad : Nat → Nat} {dI dL dZ : ClassId}
theorem mO : ∀ σ, (mw ad dI dL dZ σ)[0]? = some (ad 0, .inr (2, mfs ad σ)) := fun σ => nc_row_get (by decide)
theorem m_fsI {σ : nc_S} {k j : Nat} {v : Int32} (h : k ≠ 0) : mfs ad (nc_I σ k j v) = mfs ad σ := by
  simp only [mfs, nc_I, va_up, if_neg (Ne.symm h)]
theorem m_fsL {σ : nc_S} {k j : Nat} {v : Int64} (h : k ≠ 0) : mfs ad (nc_L σ k j v) = mfs ad σ := by
  simp only [mfs, nc_L, va_up, if_neg (Ne.symm h)]
theorem mI {k : Nat} (h0 : k ≠ 0) (h2 : m_kd k ≠ 2) (hk : k < 28) : nc_isI (mw ad dI dL dZ) k (ad k) (if m_kd k = 3 then dZ else dI) (m_ln k) := by
  refine ⟨fun σ => ?_, fun σ j v => ?_⟩
  · unfold mw
    rw [nc_row_get hk]
    simp only [m_ce, if_neg h0, if_neg h2]
  · unfold mw
    rw [nc_row_set]
    apply nc_row_congr
    intro i _
    by_cases hi : i = k
    · subst hi
      simp only [va_up, if_pos, m_ce, if_neg h0, if_neg h2, nc_I]
    · simp only [va_up, if_neg hi, m_ce, m_fsI h0]
      simp only [nc_I, va_up, if_neg hi]
theorem mL {k : Nat} (h0 : k ≠ 0) (h2 : m_kd k = 2) (hk : k < 28) : nc_isL (mw ad dI dL dZ) k (ad k) dL (m_ln k) := by
  refine ⟨fun σ => ?_, fun σ j v => ?_⟩
  · unfold mw
    rw [nc_row_get hk]
    simp only [m_ce, if_neg h0, if_pos h2]
  · unfold mw
    rw [nc_row_set]
    apply nc_row_congr
    intro i _
    by_cases hi : i = k
    · subst hi
      simp only [va_up, if_pos, m_ce, if_neg h0, if_pos h2, nc_L]
    · simp only [va_up, if_neg hi, m_ce, m_fsL h0]
      simp only [nc_L, va_up, if_neg hi]
theorem m_set {σ σ' : nc_S} {fs : List Value} (h1 : fs = mfs ad σ') (h2 : ∀ k, k ≠ 0 → σ'.1 k = σ.1 k ∧ σ'.2 k = σ.2 k) : (mw ad dI dL dZ σ).set 0 (ad 0, .inr (2, fs)) = mw ad dI dL dZ σ' := by
  unfold mw
  rw [nc_row_set]
  apply nc_row_congr
  intro i _
  by_cases hi : i = 0
  · subst hi
    simp only [va_up, if_pos, m_ce, h1]
  · simp only [va_up, if_neg hi, m_ce, (h2 i hi).1, (h2 i hi).2]
theorem m_setI {σ : nc_S} {j : Nat} {v : Int32} {fs : List Value} (h1 : fs = mfs ad (nc_I σ 0 j v)) : (mw ad dI dL dZ σ).set 0 (ad 0, .inr (2, fs)) = mw ad dI dL dZ (nc_I σ 0 j v) := m_set h1 (fun k hk => ⟨if_neg hk, rfl⟩)
theorem m_setL {σ : nc_S} {j : Nat} {v : Int64} {fs : List Value} (h1 : fs = mfs ad (nc_L σ 0 j v)) : (mw ad dI dL dZ σ).set 0 (ad 0, .inr (2, fs)) = mw ad dI dL dZ (nc_L σ 0 j v) := m_set h1 (fun k hk => ⟨rfl, if_neg hk⟩)
theorem mI1 : nc_isI (mw ad dI dL dZ) 1 (ad 1) dI 262 := mI (by decide) (by decide) (by decide)
theorem mI2 : nc_isI (mw ad dI dL dZ) 2 (ad 2) dI 262 := mI (by decide) (by decide) (by decide)
theorem mI3 : nc_isL (mw ad dI dL dZ) 3 (ad 3) dL 30 := mL (by decide) rfl (by decide)
theorem mI4 : nc_isL (mw ad dI dL dZ) 4 (ad 4) dL 30 := mL (by decide) rfl (by decide)
theorem mI5 : nc_isI (mw ad dI dL dZ) 5 (ad 5) dI 2800 := mI (by decide) (by decide) (by decide)
theorem mI6 : nc_isI (mw ad dI dL dZ) 6 (ad 6) dI 300 := mI (by decide) (by decide) (by decide)
theorem mI7 : nc_isI (mw ad dI dL dZ) 7 (ad 7) dI 160 := mI (by decide) (by decide) (by decide)
theorem mI8 : nc_isI (mw ad dI dL dZ) 8 (ad 8) dI 7 := mI (by decide) (by decide) (by decide)
theorem mI9 : nc_isL (mw ad dI dL dZ) 9 (ad 9) dL 330 := mL (by decide) rfl (by decide)
theorem mI10 : nc_isI (mw ad dI dL dZ) 10 (ad 10) dZ 330 := mI (by decide) (by decide) (by decide)
theorem mI11 : nc_isI (mw ad dI dL dZ) 11 (ad 11) dI 12 := mI (by decide) (by decide) (by decide)
theorem mI12 : nc_isI (mw ad dI dL dZ) 12 (ad 12) dI 12 := mI (by decide) (by decide) (by decide)
theorem mI13 : nc_isI (mw ad dI dL dZ) 13 (ad 13) dZ 720 := mI (by decide) (by decide) (by decide)
theorem mI14 : nc_isI (mw ad dI dL dZ) 14 (ad 14) dZ 11988 := mI (by decide) (by decide) (by decide)
theorem mI15 : nc_isI (mw ad dI dL dZ) 15 (ad 15) dI 12 := mI (by decide) (by decide) (by decide)
theorem mI16 : nc_isL (mw ad dI dL dZ) 16 (ad 16) dL 12 := mL (by decide) rfl (by decide)
theorem mI17 : nc_isL (mw ad dI dL dZ) 17 (ad 17) dL 4096 := mL (by decide) rfl (by decide)
theorem mI18 : nc_isI (mw ad dI dL dZ) 18 (ad 18) dI 3 := mI (by decide) (by decide) (by decide)
theorem mI19 : nc_isI (mw ad dI dL dZ) 19 (ad 19) dI 3 := mI (by decide) (by decide) (by decide)
theorem mI20 : nc_isI (mw ad dI dL dZ) 20 (ad 20) dI 3 := mI (by decide) (by decide) (by decide)
theorem mI21 : nc_isI (mw ad dI dL dZ) 21 (ad 21) dZ 4096 := mI (by decide) (by decide) (by decide)
theorem mI22 : nc_isI (mw ad dI dL dZ) 22 (ad 22) dI 5 := mI (by decide) (by decide) (by decide)
theorem mI23 : nc_isI (mw ad dI dL dZ) 23 (ad 23) dI 5 := mI (by decide) (by decide) (by decide)
theorem mI24 : nc_isI (mw ad dI dL dZ) 24 (ad 24) dI 25 := mI (by decide) (by decide) (by decide)
theorem mI25 : nc_isL (mw ad dI dL dZ) 25 (ad 25) dL 4096 := mL (by decide) rfl (by decide)
theorem mI26 : nc_isI (mw ad dI dL dZ) 26 (ad 26) dI 4096 := mI (by decide) (by decide) (by decide)
theorem mI27 : nc_isL (mw ad dI dL dZ) 27 (ad 27) dL 144 := mL (by decide) rfl (by decide)
theorem mP6 (σ : nc_S) (v : Int32) : (mw ad dI dL dZ σ).set 0 (ad 0, .inr (2, (mfs ad σ).set 6 (.int v))) = mw ad dI dL dZ (nc_I σ 0 6 v) := m_setI rfl
theorem mP7 (σ : nc_S) (v : Int32) : (mw ad dI dL dZ σ).set 0 (ad 0, .inr (2, (mfs ad σ).set 7 (.int v))) = mw ad dI dL dZ (nc_I σ 0 7 v) := m_setI rfl
theorem mP8 (σ : nc_S) (v : Int32) : (mw ad dI dL dZ σ).set 0 (ad 0, .inr (2, (mfs ad σ).set 8 (.int v))) = mw ad dI dL dZ (nc_I σ 0 8 v) := m_setI rfl
theorem mP9 (σ : nc_S) (v : Int32) : (mw ad dI dL dZ σ).set 0 (ad 0, .inr (2, (mfs ad σ).set 9 (.int v))) = mw ad dI dL dZ (nc_I σ 0 9 v) := m_setI rfl
theorem mP10 (σ : nc_S) (v : Int32) : (mw ad dI dL dZ σ).set 0 (ad 0, .inr (2, (mfs ad σ).set 10 (.int v))) = mw ad dI dL dZ (nc_I σ 0 10 v) := m_setI rfl
theorem mP11 (σ : nc_S) (v : Int32) : (mw ad dI dL dZ σ).set 0 (ad 0, .inr (2, (mfs ad σ).set 11 (.int v))) = mw ad dI dL dZ (nc_I σ 0 11 v) := m_setI rfl
theorem mP12 (σ : nc_S) (v : Int32) : (mw ad dI dL dZ σ).set 0 (ad 0, .inr (2, (mfs ad σ).set 12 (.int v))) = mw ad dI dL dZ (nc_I σ 0 12 v) := m_setI rfl
theorem mP13 (σ : nc_S) (v : Int64) : (mw ad dI dL dZ σ).set 0 (ad 0, .inr (2, (mfs ad σ).set 13 (.long v))) = mw ad dI dL dZ (nc_L σ 0 13 v) := m_setL rfl
theorem mP14 (σ : nc_S) (v : Int32) : (mw ad dI dL dZ σ).set 0 (ad 0, .inr (2, (mfs ad σ).set 14 (.int v))) = mw ad dI dL dZ (nc_I σ 0 14 v) := m_setI rfl
theorem mP15 (σ : nc_S) (v : Int32) : (mw ad dI dL dZ σ).set 0 (ad 0, .inr (2, (mfs ad σ).set 15 (.int v))) = mw ad dI dL dZ (nc_I σ 0 15 v) := m_setI rfl
theorem mP16 (σ : nc_S) (v : Int32) : (mw ad dI dL dZ σ).set 0 (ad 0, .inr (2, (mfs ad σ).set 16 (.int v))) = mw ad dI dL dZ (nc_I σ 0 16 v) := m_setI rfl
theorem mP17 (σ : nc_S) (v : Int32) : (mw ad dI dL dZ σ).set 0 (ad 0, .inr (2, (mfs ad σ).set 17 (.int v))) = mw ad dI dL dZ (nc_I σ 0 17 v) := m_setI rfl
theorem mP19 (σ : nc_S) (v : Int32) : (mw ad dI dL dZ σ).set 0 (ad 0, .inr (2, (mfs ad σ).set 19 (.int v))) = mw ad dI dL dZ (nc_I σ 0 19 v) := m_setI rfl
theorem mP20 (σ : nc_S) (v : Int32) : (mw ad dI dL dZ σ).set 0 (ad 0, .inr (2, (mfs ad σ).set 20 (.int v))) = mw ad dI dL dZ (nc_I σ 0 20 v) := m_setI rfl
theorem mP21 (σ : nc_S) (v : Int32) : (mw ad dI dL dZ σ).set 0 (ad 0, .inr (2, (mfs ad σ).set 21 (.int v))) = mw ad dI dL dZ (nc_I σ 0 21 v) := m_setI rfl
theorem mP22 (σ : nc_S) (v : Int32) : (mw ad dI dL dZ σ).set 0 (ad 0, .inr (2, (mfs ad σ).set 22 (.int v))) = mw ad dI dL dZ (nc_I σ 0 22 v) := m_setI rfl
theorem mP23 (σ : nc_S) (v : Int32) : (mw ad dI dL dZ σ).set 0 (ad 0, .inr (2, (mfs ad σ).set 23 (.int v))) = mw ad dI dL dZ (nc_I σ 0 23 v) := m_setI rfl
theorem mP31 (σ : nc_S) (v : Int64) : (mw ad dI dL dZ σ).set 0 (ad 0, .inr (2, (mfs ad σ).set 31 (.long v))) = mw ad dI dL dZ (nc_L σ 0 31 v) := m_setL rfl
theorem mP32 (σ : nc_S) (v : Int64) : (mw ad dI dL dZ σ).set 0 (ad 0, .inr (2, (mfs ad σ).set 32 (.long v))) = mw ad dI dL dZ (nc_L σ 0 32 v) := m_setL rfl
end MWORLD
theorem ds_X2_copy : yX2_copy.cls ≠ "java/lang/invoke/MethodHandle" ∧ yX2_copy.cls ≠ "java/lang/invoke/VarHandle" ∧ (parseMethodDescriptor yX2_copy.desc).map (fun d => d.parameters.length) = some 2 := by decide +kernel
theorem ds_X2_isIn : yX2_isIn.cls ≠ "java/lang/invoke/MethodHandle" ∧ yX2_isIn.cls ≠ "java/lang/invoke/VarHandle" ∧ (parseMethodDescriptor yX2_isIn.desc).map (fun d => d.parameters.length) = some 3 := by decide +kernel
theorem ds_X2_isCaller : yX2_isCaller.cls ≠ "java/lang/invoke/MethodHandle" ∧ yX2_isCaller.cls ≠ "java/lang/invoke/VarHandle" ∧ (parseMethodDescriptor yX2_isCaller.desc).map (fun d => d.parameters.length) = some 2 := by decide +kernel
theorem ds_X2_person : yX2_person.cls = RX2 ∧ yX2_person.cls ≠ "java/lang/invoke/MethodHandle" ∧ yX2_person.cls ≠ "java/lang/invoke/VarHandle" ∧ (parseMethodDescriptor yX2_person.desc).map (fun d => d.parameters.length) = some 2 := by decide +kernel
theorem ds_X2_isPerson : yX2_isPerson.cls = RX2 ∧ yX2_isPerson.cls ≠ "java/lang/invoke/MethodHandle" ∧ yX2_isPerson.cls ≠ "java/lang/invoke/VarHandle" ∧ (parseMethodDescriptor yX2_isPerson.desc).map (fun d => d.parameters.length) = some 1 := by decide +kernel
theorem ds_X2_change : yX2_change.cls = RX2 ∧ yX2_change.cls ≠ "java/lang/invoke/MethodHandle" ∧ yX2_change.cls ≠ "java/lang/invoke/VarHandle" ∧ (parseMethodDescriptor yX2_change.desc).map (fun d => d.parameters.length) = some 3 := by decide +kernel
theorem ds_X2_isDay : yX2_isDay.cls ≠ "java/lang/invoke/MethodHandle" ∧ yX2_isDay.cls ≠ "java/lang/invoke/VarHandle" ∧ (parseMethodDescriptor yX2_isDay.desc).map (fun d => d.parameters.length) = some 1 := by decide +kernel
theorem ds_X2_day : yX2_day.cls = RX2 ∧ yX2_day.cls ≠ "java/lang/invoke/MethodHandle" ∧ yX2_day.cls ≠ "java/lang/invoke/VarHandle" ∧ (parseMethodDescriptor yX2_day.desc).map (fun d => d.parameters.length) = some 1 := by decide +kernel
theorem ds_X2_clock : yX2_clock.cls = RX2 ∧ yX2_clock.cls ≠ "java/lang/invoke/MethodHandle" ∧ yX2_clock.cls ≠ "java/lang/invoke/VarHandle" ∧ (parseMethodDescriptor yX2_clock.desc).map (fun d => d.parameters.length) = some 1 := by decide +kernel
theorem ds_X2_near : yX2_near.cls = RX2 ∧ yX2_near.cls ≠ "java/lang/invoke/MethodHandle" ∧ yX2_near.cls ≠ "java/lang/invoke/VarHandle" ∧ (parseMethodDescriptor yX2_near.desc).map (fun d => d.parameters.length) = some 3 := by decide +kernel
theorem ds_X2_four : yX2_four.cls = RX2 ∧ yX2_four.cls ≠ "java/lang/invoke/MethodHandle" ∧ yX2_four.cls ≠ "java/lang/invoke/VarHandle" ∧ (parseMethodDescriptor yX2_four.desc).map (fun d => d.parameters.length) = some 1 := by decide +kernel
theorem ds_X2_feed : yX2_feed.cls = RX2 ∧ yX2_feed.cls ≠ "java/lang/invoke/MethodHandle" ∧ yX2_feed.cls ≠ "java/lang/invoke/VarHandle" ∧ (parseMethodDescriptor yX2_feed.desc).map (fun d => d.parameters.length) = some 5 := by decide +kernel
theorem ds_X2_end : yX2_end.cls = RX2 ∧ yX2_end.cls ≠ "java/lang/invoke/MethodHandle" ∧ yX2_end.cls ≠ "java/lang/invoke/VarHandle" ∧ (parseMethodDescriptor yX2_end.desc).map (fun d => d.parameters.length) = some 1 := by decide +kernel
theorem ds_X2_byteAt : yX2_byteAt.cls = RX2 ∧ yX2_byteAt.cls ≠ "java/lang/invoke/MethodHandle" ∧ yX2_byteAt.cls ≠ "java/lang/invoke/VarHandle" ∧ (parseMethodDescriptor yX2_byteAt.desc).map (fun d => d.parameters.length) = some 1 := by decide +kernel
theorem ds_X2_isDigit : yX2_isDigit.cls ≠ "java/lang/invoke/MethodHandle" ∧ yX2_isDigit.cls ≠ "java/lang/invoke/VarHandle" ∧ (parseMethodDescriptor yX2_isDigit.desc).map (fun d => d.parameters.length) = some 1 := by decide +kernel
theorem ds_X2_isLetter : yX2_isLetter.cls ≠ "java/lang/invoke/MethodHandle" ∧ yX2_isLetter.cls ≠ "java/lang/invoke/VarHandle" ∧ (parseMethodDescriptor yX2_isLetter.desc).map (fun d => d.parameters.length) = some 1 := by decide +kernel
theorem ds_X2_nextToken : yX2_nextToken.cls = RX2 ∧ yX2_nextToken.cls ≠ "java/lang/invoke/MethodHandle" ∧ yX2_nextToken.cls ≠ "java/lang/invoke/VarHandle" ∧ (parseMethodDescriptor yX2_nextToken.desc).map (fun d => d.parameters.length) = some 0 := by decide +kernel
theorem ds_X2_w3 : yX2_w3.cls ≠ "java/lang/invoke/MethodHandle" ∧ yX2_w3.cls ≠ "java/lang/invoke/VarHandle" ∧ (parseMethodDescriptor yX2_w3.desc).map (fun d => d.parameters.length) = some 3 := by decide +kernel
theorem ds_X2_w4 : yX2_w4.cls ≠ "java/lang/invoke/MethodHandle" ∧ yX2_w4.cls ≠ "java/lang/invoke/VarHandle" ∧ (parseMethodDescriptor yX2_w4.desc).map (fun d => d.parameters.length) = some 4 := by decide +kernel
theorem ds_X2_isWord : yX2_isWord.cls = RX2 ∧ yX2_isWord.cls ≠ "java/lang/invoke/MethodHandle" ∧ yX2_isWord.cls ≠ "java/lang/invoke/VarHandle" ∧ (parseMethodDescriptor yX2_isWord.desc).map (fun d => d.parameters.length) = some 1 := by decide +kernel
theorem ds_X2_w5 : yX2_w5.cls ≠ "java/lang/invoke/MethodHandle" ∧ yX2_w5.cls ≠ "java/lang/invoke/VarHandle" ∧ (parseMethodDescriptor yX2_w5.desc).map (fun d => d.parameters.length) = some 5 := by decide +kernel
theorem ds_X2_w6 : yX2_w6.cls ≠ "java/lang/invoke/MethodHandle" ∧ yX2_w6.cls ≠ "java/lang/invoke/VarHandle" ∧ (parseMethodDescriptor yX2_w6.desc).map (fun d => d.parameters.length) = some 6 := by decide +kernel
theorem ds_X2_sortOf : yX2_sortOf.cls = RX2 ∧ yX2_sortOf.cls ≠ "java/lang/invoke/MethodHandle" ∧ yX2_sortOf.cls ≠ "java/lang/invoke/VarHandle" ∧ (parseMethodDescriptor yX2_sortOf.desc).map (fun d => d.parameters.length) = some 0 := by decide +kernel
theorem ds_X2_figure : yX2_figure.cls = RX2 ∧ yX2_figure.cls ≠ "java/lang/invoke/MethodHandle" ∧ yX2_figure.cls ≠ "java/lang/invoke/VarHandle" ∧ (parseMethodDescriptor yX2_figure.desc).map (fun d => d.parameters.length) = some 3 := by decide +kernel
theorem ds_X2_rolled : yX2_rolled.cls = RX2 ∧ yX2_rolled.cls ≠ "java/lang/invoke/MethodHandle" ∧ yX2_rolled.cls ≠ "java/lang/invoke/VarHandle" ∧ (parseMethodDescriptor yX2_rolled.desc).map (fun d => d.parameters.length) = some 2 := by decide +kernel
theorem ds_X2_hasParen : yX2_hasParen.cls = RX2 ∧ yX2_hasParen.cls ≠ "java/lang/invoke/MethodHandle" ∧ yX2_hasParen.cls ≠ "java/lang/invoke/VarHandle" ∧ (parseMethodDescriptor yX2_hasParen.desc).map (fun d => d.parameters.length) = some 0 := by decide +kernel
theorem ds_X2_goesOn : yX2_goesOn.cls = RX2 ∧ yX2_goesOn.cls ≠ "java/lang/invoke/MethodHandle" ∧ yX2_goesOn.cls ≠ "java/lang/invoke/VarHandle" ∧ (parseMethodDescriptor yX2_goesOn.desc).map (fun d => d.parameters.length) = some 0 := by decide +kernel
theorem ds_X2_emit : yX2_emit.cls = RX2 ∧ yX2_emit.cls ≠ "java/lang/invoke/MethodHandle" ∧ yX2_emit.cls ≠ "java/lang/invoke/VarHandle" ∧ (parseMethodDescriptor yX2_emit.desc).map (fun d => d.parameters.length) = some 2 := by decide +kernel
theorem ds_X2_settle : yX2_settle.cls = RX2 ∧ yX2_settle.cls ≠ "java/lang/invoke/MethodHandle" ∧ yX2_settle.cls ≠ "java/lang/invoke/VarHandle" ∧ (parseMethodDescriptor yX2_settle.desc).map (fun d => d.parameters.length) = some 1 := by decide +kernel
theorem ds_X2_push : yX2_push.cls = RX2 ∧ yX2_push.cls ≠ "java/lang/invoke/MethodHandle" ∧ yX2_push.cls ≠ "java/lang/invoke/VarHandle" ∧ (parseMethodDescriptor yX2_push.desc).map (fun d => d.parameters.length) = some 1 := by decide +kernel
theorem ds_X2_whole : yX2_whole.cls = RX2 ∧ yX2_whole.cls ≠ "java/lang/invoke/MethodHandle" ∧ yX2_whole.cls ≠ "java/lang/invoke/VarHandle" ∧ (parseMethodDescriptor yX2_whole.desc).map (fun d => d.parameters.length) = some 0 := by decide +kernel
theorem ds_X2_behindOne : yX2_behindOne.cls = RX2 ∧ yX2_behindOne.cls ≠ "java/lang/invoke/MethodHandle" ∧ yX2_behindOne.cls ≠ "java/lang/invoke/VarHandle" ∧ (parseMethodDescriptor yX2_behindOne.desc).map (fun d => d.parameters.length) = some 0 := by decide +kernel
theorem ds_X2_nameOf : yX2_nameOf.cls = RX2 ∧ yX2_nameOf.cls ≠ "java/lang/invoke/MethodHandle" ∧ yX2_nameOf.cls ≠ "java/lang/invoke/VarHandle" ∧ (parseMethodDescriptor yX2_nameOf.desc).map (fun d => d.parameters.length) = some 0 := by decide +kernel
theorem ds_X2_isBarred : yX2_isBarred.cls = RX2 ∧ yX2_isBarred.cls ≠ "java/lang/invoke/MethodHandle" ∧ yX2_isBarred.cls ≠ "java/lang/invoke/VarHandle" ∧ (parseMethodDescriptor yX2_isBarred.desc).map (fun d => d.parameters.length) = some 1 := by decide +kernel
theorem ds_X2_beginOne : yX2_beginOne.cls = RX2 ∧ yX2_beginOne.cls ≠ "java/lang/invoke/MethodHandle" ∧ yX2_beginOne.cls ≠ "java/lang/invoke/VarHandle" ∧ (parseMethodDescriptor yX2_beginOne.desc).map (fun d => d.parameters.length) = some 0 := by decide +kernel
theorem ds_X2_summed : yX2_summed.cls = RX2 ∧ yX2_summed.cls ≠ "java/lang/invoke/MethodHandle" ∧ yX2_summed.cls ≠ "java/lang/invoke/VarHandle" ∧ (parseMethodDescriptor yX2_summed.desc).map (fun d => d.parameters.length) = some 0 := by decide +kernel
theorem ds_X2_compareOf : yX2_compareOf.cls = RX2 ∧ yX2_compareOf.cls ≠ "java/lang/invoke/MethodHandle" ∧ yX2_compareOf.cls ≠ "java/lang/invoke/VarHandle" ∧ (parseMethodDescriptor yX2_compareOf.desc).map (fun d => d.parameters.length) = some 0 := by decide +kernel
theorem ds_X2_asks : yX2_asks.cls = RX2 ∧ yX2_asks.cls ≠ "java/lang/invoke/MethodHandle" ∧ yX2_asks.cls ≠ "java/lang/invoke/VarHandle" ∧ (parseMethodDescriptor yX2_asks.desc).map (fun d => d.parameters.length) = some 0 := by decide +kernel
theorem ds_X2_either : yX2_either.cls = RX2 ∧ yX2_either.cls ≠ "java/lang/invoke/MethodHandle" ∧ yX2_either.cls ≠ "java/lang/invoke/VarHandle" ∧ (parseMethodDescriptor yX2_either.desc).map (fun d => d.parameters.length) = some 0 := by decide +kernel
theorem ds_X2_clause : yX2_clause.cls = RX2 ∧ yX2_clause.cls ≠ "java/lang/invoke/MethodHandle" ∧ yX2_clause.cls ≠ "java/lang/invoke/VarHandle" ∧ (parseMethodDescriptor yX2_clause.desc).map (fun d => d.parameters.length) = some 0 := by decide +kernel
theorem ds_X2_readText : yX2_readText.cls = RX2 ∧ yX2_readText.cls ≠ "java/lang/invoke/MethodHandle" ∧ yX2_readText.cls ≠ "java/lang/invoke/VarHandle" ∧ (parseMethodDescriptor yX2_readText.desc).map (fun d => d.parameters.length) = some 0 := by decide +kernel
theorem ds_X2_text : yX2_text.cls = RX2 ∧ yX2_text.cls ≠ "java/lang/invoke/MethodHandle" ∧ yX2_text.cls ≠ "java/lang/invoke/VarHandle" ∧ (parseMethodDescriptor yX2_text.desc).map (fun d => d.parameters.length) = some 0 := by decide +kernel
theorem ds_X2_fault : yX2_fault.cls = RX2 ∧ yX2_fault.cls ≠ "java/lang/invoke/MethodHandle" ∧ yX2_fault.cls ≠ "java/lang/invoke/VarHandle" ∧ (parseMethodDescriptor yX2_fault.desc).map (fun d => d.parameters.length) = some 1 := by decide +kernel
theorem ds_X2_by : yX2_by.cls = RX2 ∧ yX2_by.cls ≠ "java/lang/invoke/MethodHandle" ∧ yX2_by.cls ≠ "java/lang/invoke/VarHandle" ∧ (parseMethodDescriptor yX2_by.desc).map (fun d => d.parameters.length) = some 1 := by decide +kernel
theorem ds_X2_roll : yX2_roll.cls = RX2 ∧ yX2_roll.cls ≠ "java/lang/invoke/MethodHandle" ∧ yX2_roll.cls ≠ "java/lang/invoke/VarHandle" ∧ (parseMethodDescriptor yX2_roll.desc).map (fun d => d.parameters.length) = some 1 := by decide +kernel
theorem ds_X2_isHour : yX2_isHour.cls ≠ "java/lang/invoke/MethodHandle" ∧ yX2_isHour.cls ≠ "java/lang/invoke/VarHandle" ∧ (parseMethodDescriptor yX2_isHour.desc).map (fun d => d.parameters.length) = some 1 := by decide +kernel
theorem ds_X2_isDue : yX2_isDue.cls = RX2 ∧ yX2_isDue.cls ≠ "java/lang/invoke/MethodHandle" ∧ yX2_isDue.cls ≠ "java/lang/invoke/VarHandle" ∧ (parseMethodDescriptor yX2_isDue.desc).map (fun d => d.parameters.length) = some 2 := by decide +kernel
theorem ds_X2_clauses : yX2_clauses.cls = RX2 ∧ yX2_clauses.cls ≠ "java/lang/invoke/MethodHandle" ∧ yX2_clauses.cls ≠ "java/lang/invoke/VarHandle" ∧ (parseMethodDescriptor yX2_clauses.desc).map (fun d => d.parameters.length) = some 0 := by decide +kernel
theorem ds_X2_sortAt : yX2_sortAt.cls = RX2 ∧ yX2_sortAt.cls ≠ "java/lang/invoke/MethodHandle" ∧ yX2_sortAt.cls ≠ "java/lang/invoke/VarHandle" ∧ (parseMethodDescriptor yX2_sortAt.desc).map (fun d => d.parameters.length) = some 1 := by decide +kernel
theorem ds_X2_clip : yX2_clip.cls ≠ "java/lang/invoke/MethodHandle" ∧ yX2_clip.cls ≠ "java/lang/invoke/VarHandle" ∧ (parseMethodDescriptor yX2_clip.desc).map (fun d => d.parameters.length) = some 1 := by decide +kernel
theorem ds_X2_two : yX2_two.cls ≠ "java/lang/invoke/MethodHandle" ∧ yX2_two.cls ≠ "java/lang/invoke/VarHandle" ∧ (parseMethodDescriptor yX2_two.desc).map (fun d => d.parameters.length) = some 3 := by decide +kernel
theorem ds_X2_isAsked : yX2_isAsked.cls ≠ "java/lang/invoke/MethodHandle" ∧ yX2_isAsked.cls ≠ "java/lang/invoke/VarHandle" ∧ (parseMethodDescriptor yX2_isAsked.desc).map (fun d => d.parameters.length) = some 3 := by decide +kernel
theorem ds_X2_work : yX2_work.cls = RX2 ∧ yX2_work.cls ≠ "java/lang/invoke/MethodHandle" ∧ yX2_work.cls ≠ "java/lang/invoke/VarHandle" ∧ (parseMethodDescriptor yX2_work.desc).map (fun d => d.parameters.length) = some 1 := by decide +kernel
theorem ds_X2_bar : yX2_bar.cls = RX2 ∧ yX2_bar.cls ≠ "java/lang/invoke/MethodHandle" ∧ yX2_bar.cls ≠ "java/lang/invoke/VarHandle" ∧ (parseMethodDescriptor yX2_bar.desc).map (fun d => d.parameters.length) = some 1 := by decide +kernel
theorem ds_X2_take : yX2_take.cls = RX2 ∧ yX2_take.cls ≠ "java/lang/invoke/MethodHandle" ∧ yX2_take.cls ≠ "java/lang/invoke/VarHandle" ∧ (parseMethodDescriptor yX2_take.desc).map (fun d => d.parameters.length) = some 0 := by decide +kernel
theorem ds_X2_isSpeakingBy : yX2_isSpeakingBy.cls = RX2 ∧ yX2_isSpeakingBy.cls ≠ "java/lang/invoke/MethodHandle" ∧ yX2_isSpeakingBy.cls ≠ "java/lang/invoke/VarHandle" ∧ (parseMethodDescriptor yX2_isSpeakingBy.desc).map (fun d => d.parameters.length) = some 3 := by decide +kernel
theorem ds_X2_isSpeaking : yX2_isSpeaking.cls = RX2 ∧ yX2_isSpeaking.cls ≠ "java/lang/invoke/MethodHandle" ∧ yX2_isSpeaking.cls ≠ "java/lang/invoke/VarHandle" ∧ (parseMethodDescriptor yX2_isSpeaking.desc).map (fun d => d.parameters.length) = some 2 := by decide +kernel
theorem ds_X2_speaks : yX2_speaks.cls = RX2 ∧ yX2_speaks.cls ≠ "java/lang/invoke/MethodHandle" ∧ yX2_speaks.cls ≠ "java/lang/invoke/VarHandle" ∧ (parseMethodDescriptor yX2_speaks.desc).map (fun d => d.parameters.length) = some 2 := by decide +kernel
theorem ds_X2_isSet : yX2_isSet.cls = RX2 ∧ yX2_isSet.cls ≠ "java/lang/invoke/MethodHandle" ∧ yX2_isSet.cls ≠ "java/lang/invoke/VarHandle" ∧ (parseMethodDescriptor yX2_isSet.desc).map (fun d => d.parameters.length) = some 1 := by decide +kernel
theorem ds_X2_common : yX2_common.cls ≠ "java/lang/invoke/MethodHandle" ∧ yX2_common.cls ≠ "java/lang/invoke/VarHandle" ∧ (parseMethodDescriptor yX2_common.desc).map (fun d => d.parameters.length) = some 2 := by decide +kernel
theorem ds_X2_turnRound : yX2_turnRound.cls = RX2 ∧ yX2_turnRound.cls ≠ "java/lang/invoke/MethodHandle" ∧ yX2_turnRound.cls ≠ "java/lang/invoke/VarHandle" ∧ (parseMethodDescriptor yX2_turnRound.desc).map (fun d => d.parameters.length) = some 0 := by decide +kernel
theorem ds_X2_has : yX2_has.cls ≠ "java/lang/invoke/MethodHandle" ∧ yX2_has.cls ≠ "java/lang/invoke/VarHandle" ∧ (parseMethodDescriptor yX2_has.desc).map (fun d => d.parameters.length) = some 2 := by decide +kernel
theorem ds_X2_doAll : yX2_doAll.cls = RX2 ∧ yX2_doAll.cls ≠ "java/lang/invoke/MethodHandle" ∧ yX2_doAll.cls ≠ "java/lang/invoke/VarHandle" ∧ (parseMethodDescriptor yX2_doAll.desc).map (fun d => d.parameters.length) = some 2 := by decide +kernel
theorem ds_X2_nextByDay : yX2_nextByDay.cls = RX2 ∧ yX2_nextByDay.cls ≠ "java/lang/invoke/MethodHandle" ∧ yX2_nextByDay.cls ≠ "java/lang/invoke/VarHandle" ∧ (parseMethodDescriptor yX2_nextByDay.desc).map (fun d => d.parameters.length) = some 2 := by decide +kernel
theorem ds_X2_canMeet : yX2_canMeet.cls = RX2 ∧ yX2_canMeet.cls ≠ "java/lang/invoke/MethodHandle" ∧ yX2_canMeet.cls ≠ "java/lang/invoke/VarHandle" ∧ (parseMethodDescriptor yX2_canMeet.desc).map (fun d => d.parameters.length) = some 2 := by decide +kernel
theorem ds_X2_areJoined : yX2_areJoined.cls = RX2 ∧ yX2_areJoined.cls ≠ "java/lang/invoke/MethodHandle" ∧ yX2_areJoined.cls ≠ "java/lang/invoke/VarHandle" ∧ (parseMethodDescriptor yX2_areJoined.desc).map (fun d => d.parameters.length) = some 1 := by decide +kernel
theorem ds_X2_isOpen : yX2_isOpen.cls = RX2 ∧ yX2_isOpen.cls ≠ "java/lang/invoke/MethodHandle" ∧ yX2_isOpen.cls ≠ "java/lang/invoke/VarHandle" ∧ (parseMethodDescriptor yX2_isOpen.desc).map (fun d => d.parameters.length) = some 2 := by decide +kernel
theorem ds_X2_inverse : yX2_inverse.cls ≠ "java/lang/invoke/MethodHandle" ∧ yX2_inverse.cls ≠ "java/lang/invoke/VarHandle" ∧ (parseMethodDescriptor yX2_inverse.desc).map (fun d => d.parameters.length) = some 2 := by decide +kernel
theorem ds_X2_join : yX2_join.cls = RX2 ∧ yX2_join.cls ≠ "java/lang/invoke/MethodHandle" ∧ yX2_join.cls ≠ "java/lang/invoke/VarHandle" ∧ (parseMethodDescriptor yX2_join.desc).map (fun d => d.parameters.length) = some 1 := by decide +kernel
theorem ds_X2_findHours : yX2_findHours.cls = RX2 ∧ yX2_findHours.cls ≠ "java/lang/invoke/MethodHandle" ∧ yX2_findHours.cls ≠ "java/lang/invoke/VarHandle" ∧ (parseMethodDescriptor yX2_findHours.desc).map (fun d => d.parameters.length) = some 2 := by decide +kernel
theorem ds_X2_begin : yX2_begin.cls = RX2 ∧ yX2_begin.cls ≠ "java/lang/invoke/MethodHandle" ∧ yX2_begin.cls ≠ "java/lang/invoke/VarHandle" ∧ (parseMethodDescriptor yX2_begin.desc).map (fun d => d.parameters.length) = some 2 := by decide +kernel
theorem ds_X2_from : yX2_from.cls = RX2 ∧ yX2_from.cls ≠ "java/lang/invoke/MethodHandle" ∧ yX2_from.cls ≠ "java/lang/invoke/VarHandle" ∧ (parseMethodDescriptor yX2_from.desc).map (fun d => d.parameters.length) = some 1 := by decide +kernel
theorem ds_X2_next : yX2_next.cls = RX2 ∧ yX2_next.cls ≠ "java/lang/invoke/MethodHandle" ∧ yX2_next.cls ≠ "java/lang/invoke/VarHandle" ∧ (parseMethodDescriptor yX2_next.desc).map (fun d => d.parameters.length) = some 2 := by decide +kernel
theorem ds_X2_barred : yX2_barred.cls = RX2 ∧ yX2_barred.cls ≠ "java/lang/invoke/MethodHandle" ∧ yX2_barred.cls ≠ "java/lang/invoke/VarHandle" ∧ (parseMethodDescriptor yX2_barred.desc).map (fun d => d.parameters.length) = some 2 := by decide +kernel
theorem ds_X2_areHours : yX2_areHours.cls ≠ "java/lang/invoke/MethodHandle" ∧ yX2_areHours.cls ≠ "java/lang/invoke/VarHandle" ∧ (parseMethodDescriptor yX2_areHours.desc).map (fun d => d.parameters.length) = some 2 := by decide +kernel
theorem ds_X2_countIn : yX2_countIn.cls = RX2 ∧ yX2_countIn.cls ≠ "java/lang/invoke/MethodHandle" ∧ yX2_countIn.cls ≠ "java/lang/invoke/VarHandle" ∧ (parseMethodDescriptor yX2_countIn.desc).map (fun d => d.parameters.length) = some 3 := by decide +kernel
theorem ds_X2_togetherOf : yX2_togetherOf.cls = RX2 ∧ yX2_togetherOf.cls ≠ "java/lang/invoke/MethodHandle" ∧ yX2_togetherOf.cls ≠ "java/lang/invoke/VarHandle" ∧ (parseMethodDescriptor yX2_togetherOf.desc).map (fun d => d.parameters.length) = some 3 := by decide +kernel
theorem ds_X2_together : yX2_together.cls = RX2 ∧ yX2_together.cls ≠ "java/lang/invoke/MethodHandle" ∧ yX2_together.cls ≠ "java/lang/invoke/VarHandle" ∧ (parseMethodDescriptor yX2_together.desc).map (fun d => d.parameters.length) = some 3 := by decide +kernel
theorem ds_X2_speakers : yX2_speakers.cls = RX2 ∧ yX2_speakers.cls ≠ "java/lang/invoke/MethodHandle" ∧ yX2_speakers.cls ≠ "java/lang/invoke/VarHandle" ∧ (parseMethodDescriptor yX2_speakers.desc).map (fun d => d.parameters.length) = some 1 := by decide +kernel
theorem ds_X2_alone : yX2_alone.cls = RX2 ∧ yX2_alone.cls ≠ "java/lang/invoke/MethodHandle" ∧ yX2_alone.cls ≠ "java/lang/invoke/VarHandle" ∧ (parseMethodDescriptor yX2_alone.desc).map (fun d => d.parameters.length) = some 3 := by decide +kernel
theorem ds_X2_isSecret : yX2_isSecret.cls = RX2 ∧ yX2_isSecret.cls ≠ "java/lang/invoke/MethodHandle" ∧ yX2_isSecret.cls ≠ "java/lang/invoke/VarHandle" ∧ (parseMethodDescriptor yX2_isSecret.desc).map (fun d => d.parameters.length) = some 3 := by decide +kernel
theorem ds_X2_secret : yX2_secret.cls = RX2 ∧ yX2_secret.cls ≠ "java/lang/invoke/MethodHandle" ∧ yX2_secret.cls ≠ "java/lang/invoke/VarHandle" ∧ (parseMethodDescriptor yX2_secret.desc).map (fun d => d.parameters.length) = some 4 := by decide +kernel
theorem ds_X2_lowest : yX2_lowest.cls ≠ "java/lang/invoke/MethodHandle" ∧ yX2_lowest.cls ≠ "java/lang/invoke/VarHandle" ∧ (parseMethodDescriptor yX2_lowest.desc).map (fun d => d.parameters.length) = some 1 := by decide +kernel
theorem ds_X2_pass : yX2_pass.cls = RX2 ∧ yX2_pass.cls ≠ "java/lang/invoke/MethodHandle" ∧ yX2_pass.cls ≠ "java/lang/invoke/VarHandle" ∧ (parseMethodDescriptor yX2_pass.desc).map (fun d => d.parameters.length) = some 4 := by decide +kernel
theorem ds_X2_talk : yX2_talk.cls = RX2 ∧ yX2_talk.cls ≠ "java/lang/invoke/MethodHandle" ∧ yX2_talk.cls ≠ "java/lang/invoke/VarHandle" ∧ (parseMethodDescriptor yX2_talk.desc).map (fun d => d.parameters.length) = some 3 := by decide +kernel
theorem ds_X2_judge : yX2_judge.cls = RX2 ∧ yX2_judge.cls ≠ "java/lang/invoke/MethodHandle" ∧ yX2_judge.cls ≠ "java/lang/invoke/VarHandle" ∧ (parseMethodDescriptor yX2_judge.desc).map (fun d => d.parameters.length) = some 0 := by decide +kernel
theorem ds_X2_overheard : yX2_overheard.cls = RX2 ∧ yX2_overheard.cls ≠ "java/lang/invoke/MethodHandle" ∧ yX2_overheard.cls ≠ "java/lang/invoke/VarHandle" ∧ (parseMethodDescriptor yX2_overheard.desc).map (fun d => d.parameters.length) = some 1 := by decide +kernel
theorem ds_X2_firstHours : yX2_firstHours.cls ≠ "java/lang/invoke/MethodHandle" ∧ yX2_firstHours.cls ≠ "java/lang/invoke/VarHandle" ∧ (parseMethodDescriptor yX2_firstHours.desc).map (fun d => d.parameters.length) = some 1 := by decide +kernel
theorem ds_X2_size : yX2_size.cls ≠ "java/lang/invoke/MethodHandle" ∧ yX2_size.cls ≠ "java/lang/invoke/VarHandle" ∧ (parseMethodDescriptor yX2_size.desc).map (fun d => d.parameters.length) = some 1 := by decide +kernel
theorem ds_X2_hasAtLeast : yX2_hasAtLeast.cls ≠ "java/lang/invoke/MethodHandle" ∧ yX2_hasAtLeast.cls ≠ "java/lang/invoke/VarHandle" ∧ (parseMethodDescriptor yX2_hasAtLeast.desc).map (fun d => d.parameters.length) = some 2 := by decide +kernel
theorem ds_X2_canTurn : yX2_canTurn.cls = RX2 ∧ yX2_canTurn.cls ≠ "java/lang/invoke/MethodHandle" ∧ yX2_canTurn.cls ≠ "java/lang/invoke/VarHandle" ∧ (parseMethodDescriptor yX2_canTurn.desc).map (fun d => d.parameters.length) = some 2 := by decide +kernel
theorem ds_X2_turn : yX2_turn.cls = RX2 ∧ yX2_turn.cls ≠ "java/lang/invoke/MethodHandle" ∧ yX2_turn.cls ≠ "java/lang/invoke/VarHandle" ∧ (parseMethodDescriptor yX2_turn.desc).map (fun d => d.parameters.length) = some 3 := by decide +kernel
theorem ds_X2_given : yX2_given.cls = RX2 ∧ yX2_given.cls ≠ "java/lang/invoke/MethodHandle" ∧ yX2_given.cls ≠ "java/lang/invoke/VarHandle" ∧ (parseMethodDescriptor yX2_given.desc).map (fun d => d.parameters.length) = some 1 := by decide +kernel
theorem ds_X2_need : yX2_need.cls = RX2 ∧ yX2_need.cls ≠ "java/lang/invoke/MethodHandle" ∧ yX2_need.cls ≠ "java/lang/invoke/VarHandle" ∧ (parseMethodDescriptor yX2_need.desc).map (fun d => d.parameters.length) = some 4 := by decide +kernel
theorem ds_X2_worthOf : yX2_worthOf.cls = RX2 ∧ yX2_worthOf.cls ≠ "java/lang/invoke/MethodHandle" ∧ yX2_worthOf.cls ≠ "java/lang/invoke/VarHandle" ∧ (parseMethodDescriptor yX2_worthOf.desc).map (fun d => d.parameters.length) = some 1 := by decide +kernel
theorem ds_X2_worthOfAll : yX2_worthOfAll.cls = RX2 ∧ yX2_worthOfAll.cls ≠ "java/lang/invoke/MethodHandle" ∧ yX2_worthOfAll.cls ≠ "java/lang/invoke/VarHandle" ∧ (parseMethodDescriptor yX2_worthOfAll.desc).map (fun d => d.parameters.length) = some 0 := by decide +kernel
theorem ds_X2_worth : yX2_worth.cls = RX2 ∧ yX2_worth.cls ≠ "java/lang/invoke/MethodHandle" ∧ yX2_worth.cls ≠ "java/lang/invoke/VarHandle" ∧ (parseMethodDescriptor yX2_worth.desc).map (fun d => d.parameters.length) = some 1 := by decide +kernel
theorem ds_X2_giveTo : yX2_giveTo.cls = RX2 ∧ yX2_giveTo.cls ≠ "java/lang/invoke/MethodHandle" ∧ yX2_giveTo.cls ≠ "java/lang/invoke/VarHandle" ∧ (parseMethodDescriptor yX2_giveTo.desc).map (fun d => d.parameters.length) = some 2 := by decide +kernel
theorem ds_X2_give : yX2_give.cls = RX2 ∧ yX2_give.cls ≠ "java/lang/invoke/MethodHandle" ∧ yX2_give.cls ≠ "java/lang/invoke/VarHandle" ∧ (parseMethodDescriptor yX2_give.desc).map (fun d => d.parameters.length) = some 2 := by decide +kernel
theorem ds_X2_mend : yX2_mend.cls = RX2 ∧ yX2_mend.cls ≠ "java/lang/invoke/MethodHandle" ∧ yX2_mend.cls ≠ "java/lang/invoke/VarHandle" ∧ (parseMethodDescriptor yX2_mend.desc).map (fun d => d.parameters.length) = some 1 := by decide +kernel
theorem ds_X2_roundOf : yX2_roundOf.cls = RX2 ∧ yX2_roundOf.cls ≠ "java/lang/invoke/MethodHandle" ∧ yX2_roundOf.cls ≠ "java/lang/invoke/VarHandle" ∧ (parseMethodDescriptor yX2_roundOf.desc).map (fun d => d.parameters.length) = some 0 := by decide +kernel
theorem ds_X2_covers : yX2_covers.cls = RX2 ∧ yX2_covers.cls ≠ "java/lang/invoke/MethodHandle" ∧ yX2_covers.cls ≠ "java/lang/invoke/VarHandle" ∧ (parseMethodDescriptor yX2_covers.desc).map (fun d => d.parameters.length) = some 1 := by decide +kernel
theorem ds_X2_cover : yX2_cover.cls = RX2 ∧ yX2_cover.cls ≠ "java/lang/invoke/MethodHandle" ∧ yX2_cover.cls ≠ "java/lang/invoke/VarHandle" ∧ (parseMethodDescriptor yX2_cover.desc).map (fun d => d.parameters.length) = some 0 := by decide +kernel
theorem ds_X2_isApart : yX2_isApart.cls = RX2 ∧ yX2_isApart.cls ≠ "java/lang/invoke/MethodHandle" ∧ yX2_isApart.cls ≠ "java/lang/invoke/VarHandle" ∧ (parseMethodDescriptor yX2_isApart.desc).map (fun d => d.parameters.length) = some 1 := by decide +kernel
theorem ds_X2_findApart : yX2_findApart.cls = RX2 ∧ yX2_findApart.cls ≠ "java/lang/invoke/MethodHandle" ∧ yX2_findApart.cls ≠ "java/lang/invoke/VarHandle" ∧ (parseMethodDescriptor yX2_findApart.desc).map (fun d => d.parameters.length) = some 1 := by decide +kernel
theorem ds_X2_apart : yX2_apart.cls = RX2 ∧ yX2_apart.cls ≠ "java/lang/invoke/MethodHandle" ∧ yX2_apart.cls ≠ "java/lang/invoke/VarHandle" ∧ (parseMethodDescriptor yX2_apart.desc).map (fun d => d.parameters.length) = some 2 := by decide +kernel
theorem ds_X2_heard : yX2_heard.cls = RX2 ∧ yX2_heard.cls ≠ "java/lang/invoke/MethodHandle" ∧ yX2_heard.cls ≠ "java/lang/invoke/VarHandle" ∧ (parseMethodDescriptor yX2_heard.desc).map (fun d => d.parameters.length) = some 2 := by decide +kernel
theorem ds_X2_fitsAll : yX2_fitsAll.cls = RX2 ∧ yX2_fitsAll.cls ≠ "java/lang/invoke/MethodHandle" ∧ yX2_fitsAll.cls ≠ "java/lang/invoke/VarHandle" ∧ (parseMethodDescriptor yX2_fitsAll.desc).map (fun d => d.parameters.length) = some 2 := by decide +kernel
theorem ds_X2_fits : yX2_fits.cls = RX2 ∧ yX2_fits.cls ≠ "java/lang/invoke/MethodHandle" ∧ yX2_fits.cls ≠ "java/lang/invoke/VarHandle" ∧ (parseMethodDescriptor yX2_fits.desc).map (fun d => d.parameters.length) = some 2 := by decide +kernel
theorem ds_X2_who : yX2_who.cls = RX2 ∧ yX2_who.cls ≠ "java/lang/invoke/MethodHandle" ∧ yX2_who.cls ≠ "java/lang/invoke/VarHandle" ∧ (parseMethodDescriptor yX2_who.desc).map (fun d => d.parameters.length) = some 0 := by decide +kernel
theorem ds_X2_bits : yX2_bits.cls = RX2 ∧ yX2_bits.cls ≠ "java/lang/invoke/MethodHandle" ∧ yX2_bits.cls ≠ "java/lang/invoke/VarHandle" ∧ (parseMethodDescriptor yX2_bits.desc).map (fun d => d.parameters.length) = some 2 := by decide +kernel
theorem ds_X2_other : yX2_other.cls = RX2 ∧ yX2_other.cls ≠ "java/lang/invoke/MethodHandle" ∧ yX2_other.cls ≠ "java/lang/invoke/VarHandle" ∧ (parseMethodDescriptor yX2_other.desc).map (fun d => d.parameters.length) = some 4 := by decide +kernel
theorem ds_X2_hush : yX2_hush.cls = RX2 ∧ yX2_hush.cls ≠ "java/lang/invoke/MethodHandle" ∧ yX2_hush.cls ≠ "java/lang/invoke/VarHandle" ∧ (parseMethodDescriptor yX2_hush.desc).map (fun d => d.parameters.length) = some 3 := by decide +kernel
theorem ds_X2_meets : yX2_meets.cls = RX2 ∧ yX2_meets.cls ≠ "java/lang/invoke/MethodHandle" ∧ yX2_meets.cls ≠ "java/lang/invoke/VarHandle" ∧ (parseMethodDescriptor yX2_meets.desc).map (fun d => d.parameters.length) = some 3 := by decide +kernel
theorem ds_X2_isChild : yX2_isChild.cls = RX2 ∧ yX2_isChild.cls ≠ "java/lang/invoke/MethodHandle" ∧ yX2_isChild.cls ≠ "java/lang/invoke/VarHandle" ∧ (parseMethodDescriptor yX2_isChild.desc).map (fun d => d.parameters.length) = some 3 := by decide +kernel
theorem ds_X2_child : yX2_child.cls = RX2 ∧ yX2_child.cls ≠ "java/lang/invoke/MethodHandle" ∧ yX2_child.cls ≠ "java/lang/invoke/VarHandle" ∧ (parseMethodDescriptor yX2_child.desc).map (fun d => d.parameters.length) = some 4 := by decide +kernel
theorem ds_X2_pairUp : yX2_pairUp.cls = RX2 ∧ yX2_pairUp.cls ≠ "java/lang/invoke/MethodHandle" ∧ yX2_pairUp.cls ≠ "java/lang/invoke/VarHandle" ∧ (parseMethodDescriptor yX2_pairUp.desc).map (fun d => d.parameters.length) = some 1 := by decide +kernel
theorem ds_X2_pairsOf : yX2_pairsOf.cls = RX2 ∧ yX2_pairsOf.cls ≠ "java/lang/invoke/MethodHandle" ∧ yX2_pairsOf.cls ≠ "java/lang/invoke/VarHandle" ∧ (parseMethodDescriptor yX2_pairsOf.desc).map (fun d => d.parameters.length) = some 2 := by decide +kernel
theorem ds_X2_pairs : yX2_pairs.cls = RX2 ∧ yX2_pairs.cls ≠ "java/lang/invoke/MethodHandle" ∧ yX2_pairs.cls ≠ "java/lang/invoke/VarHandle" ∧ (parseMethodDescriptor yX2_pairs.desc).map (fun d => d.parameters.length) = some 3 := by decide +kernel
theorem ds_X2_image : yX2_image.cls = RX2 ∧ yX2_image.cls ≠ "java/lang/invoke/MethodHandle" ∧ yX2_image.cls ≠ "java/lang/invoke/VarHandle" ∧ (parseMethodDescriptor yX2_image.desc).map (fun d => d.parameters.length) = some 0 := by decide +kernel
theorem ds_X2_back : yX2_back.cls = RX2 ∧ yX2_back.cls ≠ "java/lang/invoke/MethodHandle" ∧ yX2_back.cls ≠ "java/lang/invoke/VarHandle" ∧ (parseMethodDescriptor yX2_back.desc).map (fun d => d.parameters.length) = some 0 := by decide +kernel
theorem ds_X2_about : yX2_about.cls = RX2 ∧ yX2_about.cls ≠ "java/lang/invoke/MethodHandle" ∧ yX2_about.cls ≠ "java/lang/invoke/VarHandle" ∧ (parseMethodDescriptor yX2_about.desc).map (fun d => d.parameters.length) = some 1 := by decide +kernel
