/-! BASE: states as two families of cells, worlds as functions of them, rows and calls over such worlds -/
set_option maxRecDepth 100000
abbrev nc_S : Type := (Nat → Nat → Int32) × (Nat → Nat → Int64)
/-- the int cell j of place k gets v -/
def nc_I (σ : nc_S) (k j : Nat) (v : Int32) : nc_S := (va_up σ.1 k (upd (σ.1 k) j v), σ.2)
/-- the long cell j of place k gets v -/
def nc_L (σ : nc_S) (k j : Nat) (v : Int64) : nc_S := (σ.1, va_up σ.2 k (vp_updL (σ.2 k) j v))
/-- the int cells of place k become f -/
def nc_F (σ : nc_S) (k : Nat) (f : Nat → Int32) : nc_S := (va_up σ.1 k f, σ.2)
def nc_irem (x y : Int32) : Int32 := x - x / y * y
def nc_lrem (x y : Int64) : Int64 := x - x / y * y
def nc_shl (x y : Int32) : Int32 := x <<< (y &&& 31)
def nc_shr (x y : Int32) : Int32 := x >>> (y &&& 31)
def nc_ushr (x y : Int32) : Int32 := (x.toUInt32 >>> (y.toUInt32 &&& Int32.toUInt32 31)).toInt32
def nc_lshl (x : Int64) (y : Int32) : Int64 := x <<< (y.toInt64 &&& 63)
def nc_lushr (x : Int64) (y : Int32) : Int64 := (x.toUInt64 >>> (y.toInt64.toUInt64 &&& Int64.toUInt64 63)).toInt64
/-- a boolean's answer -/
def nc_z (v : Int32) : Prop := narrow .boolean (.int v) = .int v
section NCROWS
variable {p : Program} {l : Launch} {e : Env} {R : Room} {s : State} {m : MethodId} {args : Array Value} {below : List Frame} {meth : Method} {c : Code} {H : Heap} {locs : List Loc} {cells slots : Nat} {Q : State → Prop}
variable {cc : ByteArray} {pc : Nat} {ls : Array Slot} {rest : List Value} {D : va_G} {cl : List vw_C} {A : Nat → Prop} {a : Nat} {tys : List (ClassId × FieldType)} {ws : va_W} {H0 : Heap}
theorem nc_irem_ (hx : p.tables.exec = Jvm.exec) (hb : c.code = cc) {x y : Int32} (hdg : decode cc pc = .ok (.irem, 1)) (hne : ¬ y = 0) (k : W p l e R s m args below meth c H locs cells slots Q (F0 m (pc + 1) ls (.int (nc_irem x y) :: rest))) : W p l e R s m args below meth c H locs cells slots Q (F0 m pc ls (.int y :: .int x :: rest)) := lv_irem hx hb hdg hne k
theorem nc_lrem_ (hx : p.tables.exec = Jvm.exec) (hb : c.code = cc) {x y : Int64} (hdg : decode cc pc = .ok (.lrem, 1)) (hne : ¬ y = 0) (k : W p l e R s m args below meth c H locs cells slots Q (F0 m (pc + 1) ls (.long (nc_lrem x y) :: rest))) : W p l e R s m args below meth c H locs cells slots Q (F0 m pc ls (.long y :: .long x :: rest)) := lv_lrem hx hb hdg hne k
theorem nc_shl_ (hx : p.tables.exec = Jvm.exec) (hb : c.code = cc) {x y : Int32} (hdg : decode cc pc = .ok (.ishl, 1)) (k : W p l e R s m args below meth c H locs cells slots Q (F0 m (pc + 1) ls (.int (nc_shl x y) :: rest))) : W p l e R s m args below meth c H locs cells slots Q (F0 m pc ls (.int y :: .int x :: rest)) := lv_ishl hx hb hdg k
theorem nc_shr_ (hx : p.tables.exec = Jvm.exec) (hb : c.code = cc) {x y : Int32} (hdg : decode cc pc = .ok (.ishr, 1)) (k : W p l e R s m args below meth c H locs cells slots Q (F0 m (pc + 1) ls (.int (nc_shr x y) :: rest))) : W p l e R s m args below meth c H locs cells slots Q (F0 m pc ls (.int y :: .int x :: rest)) := lv_ishr hx hb hdg k
theorem nc_ushr_ (hx : p.tables.exec = Jvm.exec) (hb : c.code = cc) {x y : Int32} (hdg : decode cc pc = .ok (.iushr, 1)) (k : W p l e R s m args below meth c H locs cells slots Q (F0 m (pc + 1) ls (.int (nc_ushr x y) :: rest))) : W p l e R s m args below meth c H locs cells slots Q (F0 m pc ls (.int y :: .int x :: rest)) := lv_iushr hx hb hdg rfl k
theorem nc_lshl_ (hx : p.tables.exec = Jvm.exec) (hb : c.code = cc) {x : Int64} {y : Int32} (hdg : decode cc pc = .ok (.lshl, 1)) (k : W p l e R s m args below meth c H locs cells slots Q (F0 m (pc + 1) ls (.long (nc_lshl x y) :: rest))) : W p l e R s m args below meth c H locs cells slots Q (F0 m pc ls (.int y :: .long x :: rest)) := lv_lshl hx hb hdg rfl k
theorem nc_lushr_ (hx : p.tables.exec = Jvm.exec) (hb : c.code = cc) {x : Int64} {y : Int32} (hdg : decode cc pc = .ok (.lushr, 1)) (k : W p l e R s m args below meth c H locs cells slots Q (F0 m (pc + 1) ls (.long (nc_lushr x y) :: rest))) : W p l e R s m args below meth c H locs cells slots Q (F0 m pc ls (.int y :: .long x :: rest)) := lv_lushr hx hb hdg rfl k
theorem nc_i2l_ (hx : p.tables.exec = Jvm.exec) (hb : c.code = cc) {x : Int32} (hdg : decode cc pc = .ok (.i2l, 1)) (k : W p l e R s m args below meth c H locs cells slots Q (F0 m (pc + 1) ls (.long x.toInt64 :: rest))) : W p l e R s m args below meth c H locs cells slots Q (F0 m pc ls (.int x :: rest)) := lv_i2l hx hb hdg rfl k
theorem nc_l2i_ (hx : p.tables.exec = Jvm.exec) (hb : c.code = cc) {x : Int64} (hdg : decode cc pc = .ok (.l2i, 1)) (k : W p l e R s m args below meth c H locs cells slots Q (F0 m (pc + 1) ls (.int x.toInt32 :: rest))) : W p l e R s m args below meth c H locs cells slots Q (F0 m pc ls (.long x :: rest)) := lv_l2i hx hb hdg rfl k
theorem nc_i2b_ (hx : p.tables.exec = Jvm.exec) (hb : c.code = cc) {x : Int32} (hdg : decode cc pc = .ok (.i2b, 1)) (k : W p l e R s m args below meth c H locs cells slots Q (F0 m (pc + 1) ls (.int x.toInt8.toInt32 :: rest))) : W p l e R s m args below meth c H locs cells slots Q (F0 m pc ls (.int x :: rest)) := lv_i2b hx hb hdg rfl k
-- a compare of longs and the branch on it
theorem nc_cmp_eq (x y : Int64) : lg_cmp x y = 0 ↔ x = y := by
  unfold lg_cmp
  by_cases h : x > y
  · rw [if_pos h]
    refine ⟨fun q => absurd q (by decide), fun q => ?_⟩
    subst q
    exact absurd h (Int64.lt_irrefl)
  · rw [if_neg h]
    by_cases h2 : x = y
    · rw [if_pos h2]; exact ⟨fun _ => h2, fun _ => rfl⟩
    · rw [if_neg h2]; exact ⟨fun q => absurd q (by decide), fun q => absurd q h2⟩
theorem nc_cmp_lt (x y : Int64) : lg_cmp x y < 0 ↔ x < y := by
  unfold lg_cmp
  by_cases h : x > y
  · rw [if_pos h]
    exact ⟨fun q => absurd q (by decide), fun q => absurd h (Int64.lt_asymm q)⟩
  · rw [if_neg h]
    by_cases h2 : x = y
    · rw [if_pos h2]
      refine ⟨fun q => absurd q (by decide), fun q => ?_⟩
      rw [h2] at q
      exact absurd q Int64.lt_irrefl
    · rw [if_neg h2]
      refine ⟨fun _ => ?_, fun _ => by decide⟩
      exact Int64.lt_of_le_of_ne (Int64.not_lt.mp h) h2
theorem nc_cmp_gt (x y : Int64) : 0 < lg_cmp x y ↔ y < x := by
  unfold lg_cmp
  by_cases h : x > y
  · rw [if_pos h]
    exact ⟨fun _ => h, fun _ => by decide⟩
  · rw [if_neg h]
    refine ⟨fun q => ?_, fun q => absurd q h⟩
    by_cases h2 : x = y
    · rw [if_pos h2] at q; exact absurd q (by decide)
    · rw [if_neg h2] at q; exact absurd q (by decide)
theorem nc_cmp_ge (x y : Int64) : 0 ≤ lg_cmp x y ↔ y ≤ x := by
  rw [← Int32.not_lt, nc_cmp_lt, Int64.not_lt]
theorem nc_cmp_le (x y : Int64) : lg_cmp x y ≤ 0 ↔ x ≤ y := by
  rw [← Int32.not_lt, nc_cmp_gt, Int64.not_lt]
theorem nc_lif_eq (hx : p.tables.exec = Jvm.exec) (hb : c.code = cc) {x y : Int64} {off : Int} {tgt : Nat} (h1 : decode cc pc = .ok (.lcmp, 1)) (h2 : decode cc (pc + 1) = .ok (.ifCond .eq off, 3)) (ht : ((pc + 1 : Nat) : Int) + off = (tgt : Int)) (kt : x = y → W p l e R s m args below meth c H locs cells slots Q (F0 m tgt ls rest)) (kf : ¬ x = y → W p l e R s m args below meth c H locs cells slots Q (F0 m (pc + 1 + 3) ls rest)) : W p l e R s m args below meth c H locs cells slots Q (F0 m pc ls (.long y :: .long x :: rest)) :=
  W.lcmp hx hb h1 (lv_if_eq hx hb h2 ht (fun h => kt ((nc_cmp_eq x y).mp h)) (fun h => kf (fun q => h ((nc_cmp_eq x y).mpr q))))
theorem nc_lif_ne (hx : p.tables.exec = Jvm.exec) (hb : c.code = cc) {x y : Int64} {off : Int} {tgt : Nat} (h1 : decode cc pc = .ok (.lcmp, 1)) (h2 : decode cc (pc + 1) = .ok (.ifCond .ne off, 3)) (ht : ((pc + 1 : Nat) : Int) + off = (tgt : Int)) (kt : ¬ x = y → W p l e R s m args below meth c H locs cells slots Q (F0 m tgt ls rest)) (kf : x = y → W p l e R s m args below meth c H locs cells slots Q (F0 m (pc + 1 + 3) ls rest)) : W p l e R s m args below meth c H locs cells slots Q (F0 m pc ls (.long y :: .long x :: rest)) :=
  W.lcmp hx hb h1 (lv_if_ne hx hb h2 ht (fun h => kt (fun q => h ((nc_cmp_eq x y).mpr q))) (fun h => kf ((nc_cmp_eq x y).mp h)))
theorem nc_lif_lt (hx : p.tables.exec = Jvm.exec) (hb : c.code = cc) {x y : Int64} {off : Int} {tgt : Nat} (h1 : decode cc pc = .ok (.lcmp, 1)) (h2 : decode cc (pc + 1) = .ok (.ifCond .lt off, 3)) (ht : ((pc + 1 : Nat) : Int) + off = (tgt : Int)) (kt : x < y → W p l e R s m args below meth c H locs cells slots Q (F0 m tgt ls rest)) (kf : ¬ x < y → W p l e R s m args below meth c H locs cells slots Q (F0 m (pc + 1 + 3) ls rest)) : W p l e R s m args below meth c H locs cells slots Q (F0 m pc ls (.long y :: .long x :: rest)) :=
  W.lcmp hx hb h1 (lv_if_lt hx hb h2 ht (fun h => kt ((nc_cmp_lt x y).mp h)) (fun h => kf (fun q => h ((nc_cmp_lt x y).mpr q))))
theorem nc_lif_gt (hx : p.tables.exec = Jvm.exec) (hb : c.code = cc) {x y : Int64} {off : Int} {tgt : Nat} (h1 : decode cc pc = .ok (.lcmp, 1)) (h2 : decode cc (pc + 1) = .ok (.ifCond .gt off, 3)) (ht : ((pc + 1 : Nat) : Int) + off = (tgt : Int)) (kt : y < x → W p l e R s m args below meth c H locs cells slots Q (F0 m tgt ls rest)) (kf : ¬ y < x → W p l e R s m args below meth c H locs cells slots Q (F0 m (pc + 1 + 3) ls rest)) : W p l e R s m args below meth c H locs cells slots Q (F0 m pc ls (.long y :: .long x :: rest)) :=
  W.lcmp hx hb h1 (lv_if_gt hx hb h2 ht (fun h => kt ((nc_cmp_gt x y).mp h)) (fun h => kf (fun q => h ((nc_cmp_gt x y).mpr q))))
theorem nc_lif_ge (hx : p.tables.exec = Jvm.exec) (hb : c.code = cc) {x y : Int64} {off : Int} {tgt : Nat} (h1 : decode cc pc = .ok (.lcmp, 1)) (h2 : decode cc (pc + 1) = .ok (.ifCond .ge off, 3)) (ht : ((pc + 1 : Nat) : Int) + off = (tgt : Int)) (kt : y ≤ x → W p l e R s m args below meth c H locs cells slots Q (F0 m tgt ls rest)) (kf : ¬ y ≤ x → W p l e R s m args below meth c H locs cells slots Q (F0 m (pc + 1 + 3) ls rest)) : W p l e R s m args below meth c H locs cells slots Q (F0 m pc ls (.long y :: .long x :: rest)) :=
  W.lcmp hx hb h1 (lv_if_ge hx hb h2 ht (fun h => kt ((nc_cmp_ge x y).mp h)) (fun h => kf (fun q => h ((nc_cmp_ge x y).mpr q))))
theorem nc_lif_le (hx : p.tables.exec = Jvm.exec) (hb : c.code = cc) {x y : Int64} {off : Int} {tgt : Nat} (h1 : decode cc pc = .ok (.lcmp, 1)) (h2 : decode cc (pc + 1) = .ok (.ifCond .le off, 3)) (ht : ((pc + 1 : Nat) : Int) + off = (tgt : Int)) (kt : x ≤ y → W p l e R s m args below meth c H locs cells slots Q (F0 m tgt ls rest)) (kf : ¬ x ≤ y → W p l e R s m args below meth c H locs cells slots Q (F0 m (pc + 1 + 3) ls rest)) : W p l e R s m args below meth c H locs cells slots Q (F0 m pc ls (.long y :: .long x :: rest)) :=
  W.lcmp hx hb h1 (lv_if_le hx hb h2 ht (fun h => kt ((nc_cmp_le x y).mp h)) (fun h => kf (fun q => h ((nc_cmp_le x y).mpr q))))
/-- the heap holds the cells, apart and free, and what else stood is as it was -/
def nc_X (A : Nat → Prop) (H0 : Heap) (D : va_G) (cl : List vw_C) (ws : va_W) (H : Heap) (locs : List Loc) : Prop := va_P D cl ws H ∧ va_D A ws ∧ va_S A H0 H locs
/-- what a method finds -/
def nc_pre (D : va_G) (cl : List vw_C) (tys : List (ClassId × FieldType)) (E : (Nat → Prop) → State → Heap → Prop) (ws : va_W) (sz : Nat) (U : State) : Prop := U.heap.size = sz ∧ va_P D cl ws U.heap ∧ va_K D cl tys U ∧ va_D (fun _ => True) ws ∧ E (va_A ws sz) U U.heap
/-- what it leaves -/
def nc_B {S : Type} (D : va_G) (cl : List vw_C) (tys : List (ClassId × FieldType)) (Wd : S → va_W) (A : Nat → Prop) (σ : S) (t : State) : Prop := va_P D cl (Wd σ) t.heap ∧ va_K D cl tys t ∧ va_D A (Wd σ)
/-- facts that stay: under warming, for any frame, while nothing outside A changes, for fewer free cells -/
def nc_stay (E : (Nat → Prop) → State → Heap → Prop) : Prop := (∀ (A : Nat → Prop) (s U : State) (H : Heap), s.WarmedH U.vm → E A s H → E A U H) ∧ (∀ (A : Nat → Prop) (U : State) (H : Heap) (g : JFrame) (mk : MethodId) (a : Array Value), E A U H → E A (U.calling g mk a) H) ∧ (∀ (A : Nat → Prop) (U : State) (H H1 : Heap), H.size ≤ H1.size → (∀ q : Nat, q < H.size → ¬ A q → H1[q]? = H[q]?) → E A U H → E A U H1) ∧ (∀ (A B : Nat → Prop) (U : State) (H : Heap), (∀ q, B q → A q) → E A U H → E B U H)
theorem nc_stay_true : nc_stay (fun _ _ _ => True) := ⟨fun _ _ _ _ _ _ => trivial, fun _ _ _ _ _ _ _ => trivial, fun _ _ _ _ _ _ _ => trivial, fun _ _ _ _ _ _ => trivial⟩
def nc_isI (Wd : nc_S → va_W) (k a : Nat) (cA : ClassId) (n : Nat) : Prop := (∀ σ, (Wd σ)[k]? = some (a, .inl (cA, n, .inl (σ.1 k)))) ∧ ∀ σ j v, (Wd σ).set k (a, .inl (cA, n, .inl (upd (σ.1 k) j v))) = Wd (nc_I σ k j v)
def nc_isL (Wd : nc_S → va_W) (k a : Nat) (cA : ClassId) (n : Nat) : Prop := (∀ σ, (Wd σ)[k]? = some (a, .inl (cA, n, .inr (.inl (σ.2 k))))) ∧ ∀ σ j v, (Wd σ).set k (a, .inl (cA, n, .inr (.inl (vp_updL (σ.2 k) j v)))) = Wd (nc_L σ k j v)
section NCARR
variable {Wd : nc_S → va_W} {σ : nc_S} {k : Nat} {cA : ClassId} {n : Nat}
theorem nc_iald (hx : p.tables.exec = Jvm.exec) (hb : c.code = cc) (hK : va_K D cl tys s) (hX : nc_X A H0 D cl (Wd σ) H locs) (hI : nc_isI Wd k a cA n) (t0 : Nat) (ht : tys[t0]? = some (cA, .int)) {i : Int32} {j : Nat} (hj : i.toNatClampNeg = j) (hin : vp_in i n) (hdg : decode cc pc = .ok (.iaload, 1)) (kk : W p l e R s m args below meth c H locs cells slots Q (F0 m (pc + 1) ls (.int (σ.1 k j) :: rest))) : W p l e R s m args below meth c H locs cells slots Q (F0 m pc ls (.int i :: .ref a :: rest)) := by
  subst hj
  exact va_iald hx hb hK hX.1 k t0 (hI.1 σ) ht hin hdg kk
theorem nc_bald (hx : p.tables.exec = Jvm.exec) (hb : c.code = cc) (hK : va_K D cl tys s) (hX : nc_X A H0 D cl (Wd σ) H locs) (hI : nc_isI Wd k a cA n) (t0 : Nat) (ht : tys[t0]? = some (cA, .byte)) {i : Int32} {j : Nat} (hj : i.toNatClampNeg = j) (hin : vp_in i n) (hdg : decode cc pc = .ok (.baload, 1)) (kk : W p l e R s m args below meth c H locs cells slots Q (F0 m (pc + 1) ls (.int (σ.1 k j) :: rest))) : W p l e R s m args below meth c H locs cells slots Q (F0 m pc ls (.int i :: .ref a :: rest)) := by
  subst hj
  exact va_bald hx hb hK hX.1 k t0 (hI.1 σ) ht hin hdg kk
theorem nc_zald (hx : p.tables.exec = Jvm.exec) (hb : c.code = cc) (hK : va_K D cl tys s) (hX : nc_X A H0 D cl (Wd σ) H locs) (hI : nc_isI Wd k a cA n) (t0 : Nat) (ht : tys[t0]? = some (cA, .boolean)) {i : Int32} {j : Nat} (hj : i.toNatClampNeg = j) (hin : vp_in i n) (hdg : decode cc pc = .ok (.baload, 1)) (kk : W p l e R s m args below meth c H locs cells slots Q (F0 m (pc + 1) ls (.int (σ.1 k j) :: rest))) : W p l e R s m args below meth c H locs cells slots Q (F0 m pc ls (.int i :: .ref a :: rest)) := by
  subst hj
  exact va_zald hx hb hK hX.1 k t0 (hI.1 σ) ht hin hdg kk
theorem nc_lald (hx : p.tables.exec = Jvm.exec) (hb : c.code = cc) (hK : va_K D cl tys s) (hX : nc_X A H0 D cl (Wd σ) H locs) (hI : nc_isL Wd k a cA n) (t0 : Nat) (ht : tys[t0]? = some (cA, .long)) {i : Int32} {j : Nat} (hj : i.toNatClampNeg = j) (hin : vp_in i n) (hdg : decode cc pc = .ok (.laload, 1)) (kk : W p l e R s m args below meth c H locs cells slots Q (F0 m (pc + 1) ls (.long (σ.2 k j) :: rest))) : W p l e R s m args below meth c H locs cells slots Q (F0 m pc ls (.int i :: .ref a :: rest)) := by
  subst hj
  exact va_lald hx hb hK hX.1 k t0 (hI.1 σ) ht hin hdg kk
theorem nc_iast (hx : p.tables.exec = Jvm.exec) (hb : c.code = cc) (hK : va_K D cl tys s) (hX : nc_X A H0 D cl (Wd σ) H locs) (hI : nc_isI Wd k a cA n) (t0 : Nat) (ht : tys[t0]? = some (cA, .int)) {i x : Int32} {j : Nat} (hj : i.toNatClampNeg = j) (hin : vp_in i n) (hdg : decode cc pc = .ok (.iastore, 1)) (kk : ∀ (H : Heap) (locs : List Loc), nc_X A H0 D cl (Wd (nc_I σ k j x)) H locs → W p l e R s m args below meth c H locs cells slots Q (F0 m (pc + 1) ls rest)) : W p l e R s m args below meth c H locs cells slots Q (F0 m pc ls (.int x :: .int i :: .ref a :: rest)) := by
  subst hj
  exact va_iast hx hb hK hX.1 hX.2.1 hX.2.2 k t0 (hI.1 σ) ht hin hdg (fun H1 L1 h1 h2 h3 => by rw [hI.2] at h1 h2; exact kk H1 L1 ⟨h1, h2, h3⟩)
theorem nc_bast (hx : p.tables.exec = Jvm.exec) (hb : c.code = cc) (hK : va_K D cl tys s) (hX : nc_X A H0 D cl (Wd σ) H locs) (hI : nc_isI Wd k a cA n) (t0 : Nat) (ht : tys[t0]? = some (cA, .byte)) {i x : Int32} {j : Nat} (hj : i.toNatClampNeg = j) (hin : vp_in i n) (hdg : decode cc pc = .ok (.bastore, 1)) (kk : ∀ (H : Heap) (locs : List Loc), nc_X A H0 D cl (Wd (nc_I σ k j (vp_nar .byte x))) H locs → W p l e R s m args below meth c H locs cells slots Q (F0 m (pc + 1) ls rest)) : W p l e R s m args below meth c H locs cells slots Q (F0 m pc ls (.int x :: .int i :: .ref a :: rest)) := by
  subst hj
  exact va_bast hx hb hK hX.1 hX.2.1 hX.2.2 k t0 (hI.1 σ) ht hin hdg (fun H1 L1 h1 h2 h3 => by rw [hI.2] at h1 h2; exact kk H1 L1 ⟨h1, h2, h3⟩)
theorem nc_zast (hx : p.tables.exec = Jvm.exec) (hb : c.code = cc) (hK : va_K D cl tys s) (hX : nc_X A H0 D cl (Wd σ) H locs) (hI : nc_isI Wd k a cA n) (t0 : Nat) (ht : tys[t0]? = some (cA, .boolean)) {i x : Int32} {j : Nat} (hj : i.toNatClampNeg = j) (hin : vp_in i n) (hdg : decode cc pc = .ok (.bastore, 1)) (kk : ∀ (H : Heap) (locs : List Loc), nc_X A H0 D cl (Wd (nc_I σ k j (vp_nar .boolean x))) H locs → W p l e R s m args below meth c H locs cells slots Q (F0 m (pc + 1) ls rest)) : W p l e R s m args below meth c H locs cells slots Q (F0 m pc ls (.int x :: .int i :: .ref a :: rest)) := by
  subst hj
  exact va_zast hx hb hK hX.1 hX.2.1 hX.2.2 k t0 (hI.1 σ) ht hin hdg (fun H1 L1 h1 h2 h3 => by rw [hI.2] at h1 h2; exact kk H1 L1 ⟨h1, h2, h3⟩)
theorem nc_last (hx : p.tables.exec = Jvm.exec) (hb : c.code = cc) (hK : va_K D cl tys s) (hX : nc_X A H0 D cl (Wd σ) H locs) (hI : nc_isL Wd k a cA n) (t0 : Nat) (ht : tys[t0]? = some (cA, .long)) {i : Int32} {x : Int64} {j : Nat} (hj : i.toNatClampNeg = j) (hin : vp_in i n) (hdg : decode cc pc = .ok (.lastore, 1)) (kk : ∀ (H : Heap) (locs : List Loc), nc_X A H0 D cl (Wd (nc_L σ k j x)) H locs → W p l e R s m args below meth c H locs cells slots Q (F0 m (pc + 1) ls rest)) : W p l e R s m args below meth c H locs cells slots Q (F0 m pc ls (.long x :: .int i :: .ref a :: rest)) := by
  subst hj
  exact va_last hx hb hK hX.1 hX.2.1 hX.2.2 k t0 (hI.1 σ) ht hin hdg (fun H1 L1 h1 h2 h3 => by rw [hI.2] at h1 h2; exact kk H1 L1 ⟨h1, h2, h3⟩)
end NCARR
section NCOBJ
variable {Wd : nc_S → va_W} {σ : nc_S} {k q0 ci : Nat} {own ref C : String} {T : u_T} {N index : Nat} {Ts : List Cond} {fs : nc_S → List Value} {v : Value}
theorem nc_get (hx : p.tables.exec = Jvm.exec) (hb : c.code = cc) (hts : ∀ w ∈ Ts, w.before args s = true) (hin : ∀ w ∈ u_ws C T N, w ∈ Ts) (hown : s.vm.findClass own = some m.cls) (hK : va_K D cl tys s) (hX : nc_X A H0 D cl (Wd σ) H locs) (hO : ∀ σ, (Wd σ)[q0]? = some (a, .inr (ci, fs σ))) (hc : cl[ci]? = some (C, T, N)) (hk : k < N) (hlink : (Cond.fieldLink own index ref (T k).2.1 (T k).2.2.1).before args s = true) (hsame : ∀ x, s.fieldFound? (T k).1 (T k).2.1 (T k).2.2.1 = some x → s.fieldFound? ref (T k).2.1 (T k).2.2.1 = some x) (hv : (fs σ)[k]? = some v) (hdg : decode cc pc = .ok (.getfield index, 3)) (kk : W p l e R s m args below meth c H locs cells slots Q (F0 m (pc + 3) ls (v :: rest))) : W p l e R s m args below meth c H locs cells slots Q (F0 m pc ls (.ref a :: rest)) := va_get hx hb hts hin hown hK hX.1 q0 (hO σ) hc k hk hlink hsame hv hdg kk
theorem nc_put (hx : p.tables.exec = Jvm.exec) (hb : c.code = cc) (hts : ∀ w ∈ Ts, w.before args s = true) (hin : ∀ w ∈ u_ws C T N, w ∈ Ts) (ty0 : Nat → FieldType) (hty : ∀ k, k < N → parseFieldDescriptor (T k).2.2.1 = some (ty0 k)) (hnm : ∀ a, a < N → ∀ b, b < N → a ≠ b → (T a).2.1 ≠ (T b).2.1) (hown : s.vm.findClass own = some m.cls) (hK : va_K D cl tys s) (hX : nc_X A H0 D cl (Wd σ) H locs) (hO : ∀ σ, (Wd σ)[q0]? = some (a, .inr (ci, fs σ))) (hc : cl[ci]? = some (C, T, N)) (hk : k < N) (hlink : (Cond.fieldLink own index ref (T k).2.1 (T k).2.2.1).before args s = true) (hsame : ∀ x, s.fieldFound? (T k).1 (T k).2.1 (T k).2.2.1 = some x → s.fieldFound? ref (T k).2.1 (T k).2.2.1 = some x) (hfin : (T k).2.2.2 = false) {ty : FieldType} (hd : parseFieldDescriptor (T k).2.2.1 = some ty) (hn : narrow ty v = v) (hfit : fits ty v = true) (hl : k < (fs σ).length) {σ' : nc_S} (hW : (Wd σ).set q0 (a, .inr (ci, (fs σ).set k v)) = Wd σ') (hdg : decode cc pc = .ok (.putfield index, 3)) (kk : ∀ (H : Heap) (locs : List Loc), nc_X A H0 D cl (Wd σ') H locs → W p l e R s m args below meth c H locs cells slots Q (F0 m (pc + 3) ls rest)) : W p l e R s m args below meth c H locs cells slots Q (F0 m pc ls (v :: .ref a :: rest)) :=
  va_put hx hb hts hin ty0 hty hnm hown hK hX.1 hX.2.1 hX.2.2 q0 (hO σ) hc k hk hlink hsame hfin hd hn hfit hl hdg (fun H1 L1 h1 h2 h3 => by rw [hW] at h1 h2; exact kk H1 L1 ⟨h1, h2, h3⟩)
end NCOBJ
end NCROWS
theorem nc_blind {D : va_G} {cl : List vw_C} {tys : List (ClassId × FieldType)} {E : (Nat → Prop) → State → Heap → Prop} (hE : nc_stay E) {ws : va_W} {sz : Nat} {av : List Value} : FrameBlind (va_Pc av (nc_pre D cl tys E ws sz)) := fun a U g mk q => by
  obtain ⟨q0, q1, qP, qK, qD, qE⟩ := q
  exact ⟨q0, q1, qP, va_K.moved (u := U) (U := U.calling g mk a) (Vm.Alike.refl U.vm) qK, qD, hE.2.1 _ _ _ _ _ _ qE⟩
section NCCALL
variable {p : Program} {l : Launch} {e : Env} {R : Room} {s : State} {m : MethodId} {args : Array Value} {below : List Frame} {meth : Method} {c : Code} {H : Heap} {locs : List Loc} {cells slots : Nat} {Q : State → Prop}
variable {cc : ByteArray} {pc : Nat} {ls : Array Slot} {rest As : List Value} {D : va_G} {cl : List vw_C} {A : Nat → Prop} {tys : List (ClassId × FieldType)} {S : Type} {Wd : S → va_W} {σ : S} {E : (Nat → Prop) → State → Heap → Prop}
variable {y : MethodName} {bytes : ByteArray} {maxL nL n index b q0 ci : Nat} {ret : Option FieldType} {ws Ts : List Cond} {rm : Room} {own C : String} {fs : List Value} {q : vw_C}
/-- the callee's cells lie in the caller's -/
theorem nc_sub (hX : nc_X A s.heap D cl (Wd σ) H locs) (hA : ∀ q, s.heap.size ≤ q → A q) : ∀ q, va_A (Wd σ) H.size q → A q := fun q h => by
  rcases h with ⟨k, e, h⟩ | h
  · exact hX.2.1.2 k _ h
  · exact hA q (Nat.le_trans hX.2.2.1 h)
theorem nc_preE (hE : nc_stay E) (hX : nc_X A s.heap D cl (Wd σ) H locs) (hA : ∀ q, s.heap.size ≤ q → A q) (hEs : E A s s.heap) {U : State} (hU : U.heap = H) (hW : s.WarmedH U.vm) : E (va_A (Wd σ) H.size) U U.heap := by
  rw [hU]
  exact hE.1 _ s U H hW (hE.2.2.2 A _ s H (nc_sub hX hA) (hE.2.2.1 A s s.heap H hX.2.2.1 hX.2.2.2.1 hEs))
theorem nc_preS (hE : nc_stay E) (hX : nc_X A s.heap D cl (Wd σ) H locs) (hA : ∀ q, s.heap.size ≤ q → A q) (hK : va_K D cl tys s) (hEs : E A s s.heap) : PreS s H (va_Pc As (nc_pre D cl tys E (Wd σ) H.size)) As :=
  ⟨nc_blind hE, fun U hU hW => ⟨rfl, by rw [hU], by rw [hU]; exact hX.1, va_K.moved hW.alike hK, hX.2.1.weaken (fun _ _ _ _ => trivial), nc_preE hE hX hA hEs hU hW⟩⟩
theorem nc_preV (hE : nc_stay E) (hX : nc_X A s.heap D cl (Wd σ) H locs) (hA : ∀ q, s.heap.size ≤ q → A q) (hK : va_K D cl tys s) (hEs : E A s s.heap) (hc : cl[ci]? = some q) (he : (Wd σ)[q0]? = some (b, .inr (ci, fs))) : PreV s H q.1 b (va_Pc (.ref b :: As) (nc_pre D cl tys E (Wd σ) H.size)) As :=
  ⟨nc_blind hE, va_recv hK hX.1 hc he, fun U hU hW => ⟨rfl, by rw [hU], by rw [hU]; exact hX.1, va_K.moved hW.alike hK, hX.2.1.weaken (fun _ _ _ _ => trivial), nc_preE hE hX hA hEs hU hW⟩⟩
theorem nc_after {σ' : S} {t : State} {H1 : Heap} {locs1 : List Loc} (hX : nc_X A s.heap D cl (Wd σ) H locs) (hA : ∀ q, s.heap.size ≤ q → A q) (ht : t.heap = H1) (hB : nc_B D cl tys Wd (va_A (Wd σ) H.size) σ' t) (hS : va_S A s.heap H1 locs1) : nc_X A s.heap D cl (Wd σ') H1 locs1 := by
  obtain ⟨h1, h2, h3⟩ := hB
  rw [ht] at h1
  exact ⟨h1, h3.weaken (fun _ q _ h => nc_sub hX hA q.1 h), hS⟩
theorem nc_cVi {Qr : Int32 → S → Prop} (hF : CallFix p m c cc nL s args Ts own) (hM : ∀ sz, Met l y ws rm (va_Pc (.ref b :: As) (nc_pre D cl tys E (Wd σ) sz)) (va_Qi Qr (nc_B D cl tys Wd (va_A (Wd σ) sz)) (va_A (Wd σ) sz)) 0 0 (va_A (Wd σ) sz)) (cw : CallW R s args own q.1 index y bytes maxL ret ws rm 0 0 n) (hE : nc_stay E) (hEs : E A s s.heap) (hK : va_K D cl tys s) (hX : nc_X A s.heap D cl (Wd σ) H locs) (hA : ∀ q, s.heap.size ≤ q → A q) (hc : cl[ci]? = some q) (he : (Wd σ)[q0]? = some (b, .inr (ci, fs))) (hn : As.length = n) (hls : ls.size = nL) (hW : (rest.map fun v => v.category).sum ≤ 8) (hdg : decode cc pc = .ok (.invokevirtual index, 3)) (hf : cells ≤ R.cells ∧ slots ≤ R.slots) (kk : ∀ (r : Int32) (σ' : S) (H1 : Heap) (locs1 : List Loc), Qr r σ' → nc_X A s.heap D cl (Wd σ') H1 locs1 → W p l e R s m args below meth c H1 locs1 cells slots Q (F0 m (pc + 3) ls (.int r :: rest))) : W p l e R s m args below meth c H locs cells slots Q (F0 m pc ls (As.reverse ++ .ref b :: rest)) :=
  va_calli (va_runV (As := As) (rest := rest) hF (hM H.size) cw (nc_preV hE hX hA hK hEs hc he) rfl hn hls rfl (lv_room hW) hdg hf) hX.2.2 (fun q _ h => nc_sub hX hA q h) (nc_sub hX hA) (fun r u t H1 locs1 ht _ hp hB _ _ hS => kk r u H1 locs1 hp (nc_after hX hA ht hB hS))
theorem nc_cVl {Qr : Int64 → S → Prop} (hF : CallFix p m c cc nL s args Ts own) (hM : ∀ sz, Met l y ws rm (va_Pc (.ref b :: As) (nc_pre D cl tys E (Wd σ) sz)) (va_Ql Qr (nc_B D cl tys Wd (va_A (Wd σ) sz)) (va_A (Wd σ) sz)) 0 0 (va_A (Wd σ) sz)) (cw : CallW R s args own q.1 index y bytes maxL ret ws rm 0 0 n) (hE : nc_stay E) (hEs : E A s s.heap) (hK : va_K D cl tys s) (hX : nc_X A s.heap D cl (Wd σ) H locs) (hA : ∀ q, s.heap.size ≤ q → A q) (hc : cl[ci]? = some q) (he : (Wd σ)[q0]? = some (b, .inr (ci, fs))) (hn : As.length = n) (hls : ls.size = nL) (hW : (rest.map fun v => v.category).sum ≤ 8) (hdg : decode cc pc = .ok (.invokevirtual index, 3)) (hf : cells ≤ R.cells ∧ slots ≤ R.slots) (kk : ∀ (r : Int64) (σ' : S) (H1 : Heap) (locs1 : List Loc), Qr r σ' → nc_X A s.heap D cl (Wd σ') H1 locs1 → W p l e R s m args below meth c H1 locs1 cells slots Q (F0 m (pc + 3) ls (.long r :: rest))) : W p l e R s m args below meth c H locs cells slots Q (F0 m pc ls (As.reverse ++ .ref b :: rest)) :=
  va_calll (va_runV (As := As) (rest := rest) hF (hM H.size) cw (nc_preV hE hX hA hK hEs hc he) rfl hn hls rfl (lv_room hW) hdg hf) hX.2.2 (fun q _ h => nc_sub hX hA q h) (nc_sub hX hA) (fun r u t H1 locs1 ht _ hp hB _ _ hS => kk r u H1 locs1 hp (nc_after hX hA ht hB hS))
theorem nc_cVv {Qr : S → Prop} (hF : CallFix p m c cc nL s args Ts own) (hM : ∀ sz, Met l y ws rm (va_Pc (.ref b :: As) (nc_pre D cl tys E (Wd σ) sz)) (va_Qv Qr (nc_B D cl tys Wd (va_A (Wd σ) sz)) (va_A (Wd σ) sz)) 0 0 (va_A (Wd σ) sz)) (cw : CallW R s args own q.1 index y bytes maxL ret ws rm 0 0 n) (hE : nc_stay E) (hEs : E A s s.heap) (hK : va_K D cl tys s) (hX : nc_X A s.heap D cl (Wd σ) H locs) (hA : ∀ q, s.heap.size ≤ q → A q) (hc : cl[ci]? = some q) (he : (Wd σ)[q0]? = some (b, .inr (ci, fs))) (hn : As.length = n) (hls : ls.size = nL) (hW : (rest.map fun v => v.category).sum ≤ 8) (hdg : decode cc pc = .ok (.invokevirtual index, 3)) (hf : cells ≤ R.cells ∧ slots ≤ R.slots) (kk : ∀ (σ' : S) (H1 : Heap) (locs1 : List Loc), Qr σ' → nc_X A s.heap D cl (Wd σ') H1 locs1 → W p l e R s m args below meth c H1 locs1 cells slots Q (F0 m (pc + 3) ls rest)) : W p l e R s m args below meth c H locs cells slots Q (F0 m pc ls (As.reverse ++ .ref b :: rest)) :=
  va_callv (va_runV (As := As) (rest := rest) hF (hM H.size) cw (nc_preV hE hX hA hK hEs hc he) rfl hn hls rfl (lv_room hW) hdg hf) hX.2.2 (fun q _ h => nc_sub hX hA q h) (nc_sub hX hA) (fun u t H1 locs1 ht _ hp hB _ _ hS => kk u H1 locs1 hp (nc_after hX hA ht hB hS))
theorem nc_cSi {Qr : Int32 → S → Prop} (hF : CallFix p m c cc nL s args Ts own) (hM : ∀ sz, Met l y ws rm (va_Pc As (nc_pre D cl tys E (Wd σ) sz)) (va_Qi Qr (nc_B D cl tys Wd (va_A (Wd σ) sz)) (va_A (Wd σ) sz)) 0 0 (va_A (Wd σ) sz)) (cw : CallB R s args own index y bytes maxL ret ws rm 0 0 n ∧ (Cond.static y).before args s = true) (hE : nc_stay E) (hEs : E A s s.heap) (hK : va_K D cl tys s) (hX : nc_X A s.heap D cl (Wd σ) H locs) (hA : ∀ q, s.heap.size ≤ q → A q) (hn : As.length = n) (hls : ls.size = nL) (hW : (rest.map fun v => v.category).sum ≤ 8) (hdg : decode cc pc = .ok (.invokestatic index, 3)) (hf : cells ≤ R.cells ∧ slots ≤ R.slots) (kk : ∀ (r : Int32) (σ' : S) (H1 : Heap) (locs1 : List Loc), Qr r σ' → nc_X A s.heap D cl (Wd σ') H1 locs1 → W p l e R s m args below meth c H1 locs1 cells slots Q (F0 m (pc + 3) ls (.int r :: rest))) : W p l e R s m args below meth c H locs cells slots Q (F0 m pc ls (As.reverse ++ rest)) :=
  va_calli (va_runS (As := As) (rest := rest) hF (hM H.size) cw (nc_preS hE hX hA hK hEs) rfl hn hls rfl (lv_room hW) hdg hf) hX.2.2 (fun q _ h => nc_sub hX hA q h) (nc_sub hX hA) (fun r u t H1 locs1 ht _ hp hB _ _ hS => kk r u H1 locs1 hp (nc_after hX hA ht hB hS))
theorem nc_cSl {Qr : Int64 → S → Prop} (hF : CallFix p m c cc nL s args Ts own) (hM : ∀ sz, Met l y ws rm (va_Pc As (nc_pre D cl tys E (Wd σ) sz)) (va_Ql Qr (nc_B D cl tys Wd (va_A (Wd σ) sz)) (va_A (Wd σ) sz)) 0 0 (va_A (Wd σ) sz)) (cw : CallB R s args own index y bytes maxL ret ws rm 0 0 n ∧ (Cond.static y).before args s = true) (hE : nc_stay E) (hEs : E A s s.heap) (hK : va_K D cl tys s) (hX : nc_X A s.heap D cl (Wd σ) H locs) (hA : ∀ q, s.heap.size ≤ q → A q) (hn : As.length = n) (hls : ls.size = nL) (hW : (rest.map fun v => v.category).sum ≤ 8) (hdg : decode cc pc = .ok (.invokestatic index, 3)) (hf : cells ≤ R.cells ∧ slots ≤ R.slots) (kk : ∀ (r : Int64) (σ' : S) (H1 : Heap) (locs1 : List Loc), Qr r σ' → nc_X A s.heap D cl (Wd σ') H1 locs1 → W p l e R s m args below meth c H1 locs1 cells slots Q (F0 m (pc + 3) ls (.long r :: rest))) : W p l e R s m args below meth c H locs cells slots Q (F0 m pc ls (As.reverse ++ rest)) :=
  va_calll (va_runS (As := As) (rest := rest) hF (hM H.size) cw (nc_preS hE hX hA hK hEs) rfl hn hls rfl (lv_room hW) hdg hf) hX.2.2 (fun q _ h => nc_sub hX hA q h) (nc_sub hX hA) (fun r u t H1 locs1 ht _ hp hB _ _ hS => kk r u H1 locs1 hp (nc_after hX hA ht hB hS))
theorem nc_cSv {Qr : S → Prop} (hF : CallFix p m c cc nL s args Ts own) (hM : ∀ sz, Met l y ws rm (va_Pc As (nc_pre D cl tys E (Wd σ) sz)) (va_Qv Qr (nc_B D cl tys Wd (va_A (Wd σ) sz)) (va_A (Wd σ) sz)) 0 0 (va_A (Wd σ) sz)) (cw : CallB R s args own index y bytes maxL ret ws rm 0 0 n ∧ (Cond.static y).before args s = true) (hE : nc_stay E) (hEs : E A s s.heap) (hK : va_K D cl tys s) (hX : nc_X A s.heap D cl (Wd σ) H locs) (hA : ∀ q, s.heap.size ≤ q → A q) (hn : As.length = n) (hls : ls.size = nL) (hW : (rest.map fun v => v.category).sum ≤ 8) (hdg : decode cc pc = .ok (.invokestatic index, 3)) (hf : cells ≤ R.cells ∧ slots ≤ R.slots) (kk : ∀ (σ' : S) (H1 : Heap) (locs1 : List Loc), Qr σ' → nc_X A s.heap D cl (Wd σ') H1 locs1 → W p l e R s m args below meth c H1 locs1 cells slots Q (F0 m (pc + 3) ls rest)) : W p l e R s m args below meth c H locs cells slots Q (F0 m pc ls (As.reverse ++ rest)) :=
  va_callv (va_runS (As := As) (rest := rest) hF (hM H.size) cw (nc_preS hE hX hA hK hEs) rfl hn hls rfl (lv_room hW) hdg hf) hX.2.2 (fun q _ h => nc_sub hX hA q h) (nc_sub hX hA) (fun u t H1 locs1 ht _ hp hB _ _ hS => kk u H1 locs1 hp (nc_after hX hA ht hB hS))
-- the ends
theorem nc_iret {Qr : Int32 → S → Prop} {v : Int32} (hx : p.tables.exec = Jvm.exec) (hb : c.code = cc) (hr : meth.sig.returnType = some .int) (hlk : meth.locks = false) (hK : va_K D cl tys s) (h : Qr v σ) (hX : nc_X A s.heap D cl (Wd σ) H locs) (hdg : decode cc pc = .ok (.ireturn, 1)) : W p l e R s m args below meth c H locs cells slots (MQ below (va_Qi Qr (nc_B D cl tys Wd A) A) args s cells slots A) (F0 m pc ls [.int v]) :=
  W.iret (hlocks := hlk) (v := v) hx hb hr (fun t ht hW => ⟨⟨v, σ, rfl, h, by rw [ht]; exact hX.1, va_K.moved hW.alike hK, hX.2.1⟩, hX.2.2.F ht⟩) hX.2.2.2.2 hdg
theorem nc_zret {Qr : Int32 → S → Prop} {v : Int32} (hx : p.tables.exec = Jvm.exec) (hb : c.code = cc) (hr : meth.sig.returnType = some .boolean) (hlk : meth.locks = false) (hK : va_K D cl tys s) (hz : nc_z v) (h : Qr v σ) (hX : nc_X A s.heap D cl (Wd σ) H locs) (hdg : decode cc pc = .ok (.ireturn, 1)) : W p l e R s m args below meth c H locs cells slots (MQ below (va_Qi Qr (nc_B D cl tys Wd A) A) args s cells slots A) (F0 m pc ls [.int v]) :=
  W.zret (hlocks := hlk) (v := v) hx hb hr hz (fun t ht hW => ⟨⟨v, σ, rfl, h, by rw [ht]; exact hX.1, va_K.moved hW.alike hK, hX.2.1⟩, hX.2.2.F ht⟩) hX.2.2.2.2 hdg
theorem nc_lret {Qr : Int64 → S → Prop} {v : Int64} (hx : p.tables.exec = Jvm.exec) (hb : c.code = cc) (hr : meth.sig.returnType = some .long) (hlk : meth.locks = false) (hK : va_K D cl tys s) (h : Qr v σ) (hX : nc_X A s.heap D cl (Wd σ) H locs) (hdg : decode cc pc = .ok (.lreturn, 1)) : W p l e R s m args below meth c H locs cells slots (MQ below (va_Ql Qr (nc_B D cl tys Wd A) A) args s cells slots A) (F0 m pc ls [.long v]) :=
  W.lret (hlocks := hlk) (v := v) hx hb hr (fun t ht hW => ⟨⟨v, σ, rfl, h, by rw [ht]; exact hX.1, va_K.moved hW.alike hK, hX.2.1⟩, hX.2.2.F ht⟩) hX.2.2.2.2 hdg
theorem nc_vret {Qr : S → Prop} (hx : p.tables.exec = Jvm.exec) (hb : c.code = cc) (hr : meth.sig.returnType = none) (hlk : meth.locks = false) (hK : va_K D cl tys s) (h : Qr σ) (hX : nc_X A s.heap D cl (Wd σ) H locs) (hdg : decode cc pc = .ok (.return_, 1)) : W p l e R s m args below meth c H locs cells slots (MQ below (va_Qv Qr (nc_B D cl tys Wd A) A) args s cells slots A) (F0 m pc ls []) :=
  W.vret (hlocks := hlk) hx hb hr (fun t ht hW => ⟨⟨σ, rfl, h, by rw [ht]; exact hX.1, va_K.moved hW.alike hK, hX.2.1⟩, hX.2.2.F ht⟩) hX.2.2.2.2 hdg
end NCCALL

theorem nc_in {i : Int32} {n : Nat} (h : (decide (0 ≤ i) && decide (i.toNatClampNeg < n)) = true) : vp_in i n := by
  have h1 := Bool.and_eq_true_iff.mp h
  have h2 := of_decide_eq_true h1.1
  have h3 := of_decide_eq_true h1.2
  intro q
  rcases q with q | q
  · exact absurd h2 (Int32.not_le.mpr q)
  · omega
/-- what every cut of a method rests on -/
def nc_C (p : Program) (s : State) (m : MethodId) (args : Array Value) (meth : Method) (c : Code) (D : va_G) (cl : List vw_C) (tys : List (ClassId × FieldType)) (E : (Nat → Prop) → State → Heap → Prop) (A : Nat → Prop) (own : String) (cc : ByteArray) (nL : Nat) (ret : Option FieldType) : Prop := p.tables.exec = Jvm.exec ∧ c.code = cc ∧ c.maxLocals = nL ∧ s.vm.findClass own = some m.cls ∧ (∀ w ∈ lw_all, w.before args s = true) ∧ meth.sig.returnType = ret ∧ meth.locks = false ∧ va_K D cl tys s ∧ E A s s.heap ∧ (∀ q, s.heap.size ≤ q → A q)
/-- a contract out of the walk from its entry -/
theorem nc_metM {l : Launch} {y : MethodName} {ws : List Cond} {rm : Room} {D : va_G} {cl : List vw_C} {tys : List (ClassId × FieldType)} {E : (Nat → Prop) → State → Heap → Prop} {S : Type} {Wd : S → va_W} {σ : S} {As : List Value} {Qc : (Nat → Prop) → Array Value → State → Outcome → State → Prop} {cc : ByteArray} {maxL : Nat} {ret : Option FieldType} {own : String} (_ : nc_stay E) (hy : plainName y.cls = true) (ho : y.cls = own) (hw : ws = ws_ y cc maxL ret) (hlv : (lg_sl As).length ≤ maxL)
    (body : ∀ (p : Program) (e : Env) (s : State) (m : MethodId) (below : List Frame) (meth : Method) (c : Code) (A : Nat → Prop), nc_C p s m As.toArray meth c D cl tys E A own cc maxL ret → ∀ ls : Array Slot, nc_X A s.heap D cl (Wd σ) s.heap [] → lv_has ls maxL (lv_args 0 As) → W p l e rm s m As.toArray below meth c s.heap [] 0 0 (MQ below (Qc A) As.toArray s 0 0 A) (F0 m 0 ls [])) (sz : Nat) : Met l y ws rm (va_Pc As (nc_pre D cl tys E (Wd σ) sz)) (Qc (va_A (Wd σ) sz)) 0 0 (va_A (Wd σ) sz) := by
  subst hw
  refine Met.ofW (cc := cc) (maxL := maxL) (ret := ret) hy rfl ?_
  intro p e s m args below meth c s₁ B hml hv
  obtain ⟨rfl, hsz, hP, hK, hD0, hE⟩ := hv
  have hts := atoms_spec (ws := ws_ y cc maxL ret) B.pre
  have hts : ∀ w ∈ lw_all, w.before _ s = true := fun w h => hts w (List.mem_cons_of_mem _ h)
  subst hsz
  have hl := lv_entry As hlv
  rw [lg_entry_eq]
  exact body p e s m below meth c _ ⟨B.exec, B.bytes, hml, by rw [← ho]; exact findClass_of_methodNamed B.named, hts, B.returns, B.notSynchronized, hK, hE, fun q h => Or.inr h⟩ _ ⟨hP, hD0.self, va_S.rf⟩ hl
/-- (a method of a class with natives) a contract out of the walk from its entry -/
theorem nc_metF {l : Launch} {y : MethodName} {ws : List Cond} {rm : Room} {D : va_G} {cl : List vw_C} {tys : List (ClassId × FieldType)} {E : (Nat → Prop) → State → Heap → Prop} {S : Type} {Wd : S → va_W} {σ : S} {As : List Value} {Qc : (Nat → Prop) → Array Value → State → Outcome → State → Prop} {cc : ByteArray} {maxL : Nat} {ret : Option FieldType} {own : String} (_ : nc_stay E) (hy : plainFor y = true) (ho : y.cls = own) (hw : ws = ws_ y cc maxL ret) (hlv : (lg_sl As).length ≤ maxL)
    (body : ∀ (p : Program) (e : Env) (s : State) (m : MethodId) (below : List Frame) (meth : Method) (c : Code) (A : Nat → Prop), nc_C p s m As.toArray meth c D cl tys E A own cc maxL ret → ∀ ls : Array Slot, nc_X A s.heap D cl (Wd σ) s.heap [] → lv_has ls maxL (lv_args 0 As) → W p l e rm s m As.toArray below meth c s.heap [] 0 0 (MQ below (Qc A) As.toArray s 0 0 A) (F0 m 0 ls [])) (sz : Nat) : Met l y ws rm (va_Pc As (nc_pre D cl tys E (Wd σ) sz)) (Qc (va_A (Wd σ) sz)) 0 0 (va_A (Wd σ) sz) := by
  subst hw
  refine va_MetF (cc := cc) (maxL := maxL) (ret := ret) hy rfl ?_
  intro p e s m args below meth c s₁ B hml hv
  obtain ⟨rfl, hsz, hP, hK, hD0, hE⟩ := hv
  have hts := atoms_spec (ws := ws_ y cc maxL ret) B.pre
  have hts : ∀ w ∈ lw_all, w.before _ s = true := fun w h => hts w (List.mem_cons_of_mem _ h)
  subst hsz
  have hl := lv_entry As hlv
  rw [lg_entry_eq]
  exact body p e s m below meth c _ ⟨B.exec, B.bytes, hml, by rw [← ho]; exact findClass_of_methodNamed B.named, hts, B.returns, B.notSynchronized, hK, hE, fun q h => Or.inr h⟩ _ ⟨hP, hD0.self, va_S.rf⟩ hl
/-- a row of n cells, by a function -/
def nc_row (n : Nat) (ad : Nat → Nat) (f : Nat → va_E) : va_W := (List.range n).map (fun k => (ad k, f k))
theorem nc_row_get {n : Nat} {ad : Nat → Nat} {f : Nat → va_E} {k : Nat} (h : k < n) : (nc_row n ad f)[k]? = some (ad k, f k) := by
  simp [nc_row, h]
theorem nc_row_set {n : Nat} {ad : Nat → Nat} {f : Nat → va_E} {k : Nat} {e : va_E} : (nc_row n ad f).set k (ad k, e) = nc_row n ad (va_up f k e) := by
  apply List.ext_getElem?
  intro j
  by_cases hj : j < n
  · rw [nc_row_get hj, List.getElem?_set]
    by_cases h : k = j
    · subst h
      simp [nc_row, hj, va_up]
    · rw [if_neg h, nc_row_get hj]
      simp [va_up, Ne.symm h]
  · simp [nc_row, hj]
theorem nc_row_congr {n : Nat} {ad : Nat → Nat} {f g : Nat → va_E} (h : ∀ k, k < n → f k = g k) : nc_row n ad f = nc_row n ad g := by
  apply List.map_congr_left
  intro k hk
  rw [h k (List.mem_range.mp hk)]
def nc_l0 (b : (nc_S → Prop) → nc_S → Prop) : Nat → nc_S → Prop
  | 0, _ => False
  | n + 1, σ => b (nc_l0 b n)  σ
/-- the loop's rule: an invariant and a measure -/
theorem nc_w0 {b : (nc_S → Prop) → nc_S → Prop} (I : nc_S → Prop) (μ : nc_S → Nat) (hs : ∀ (k : nc_S → Prop)  (σ : nc_S), I  σ → (∀  (σ' : nc_S), I  σ' → μ  σ' < μ  σ → k  σ') → b k  σ)  (σ : nc_S) (h : I  σ) : ∃ n, nc_l0 b n  σ := by
  have key : ∀ (n : Nat)  (σ : nc_S), I  σ → μ  σ < n → nc_l0 b n  σ := by
    intro n
    induction n with
    | zero => intro  σ _ h; exact absurd h (Nat.not_lt_zero _)
    | succ n ih => intro  σ hi h; exact hs _  σ hi (fun  σ' hi' h' => ih  σ' hi' (by omega))
  exact ⟨_, key _  σ h (Nat.lt_succ_self _)⟩
def nc_l1 {A1 : Type} (b : (A1 → nc_S → Prop) → A1 → nc_S → Prop) : Nat → A1 → nc_S → Prop
  | 0, _, _ => False
  | n + 1, x0, σ => b (nc_l1 b n) x0 σ
/-- the loop's rule: an invariant and a measure -/
theorem nc_w1 {A1 : Type} {b : (A1 → nc_S → Prop) → A1 → nc_S → Prop} (I : A1 → nc_S → Prop) (μ : A1 → nc_S → Nat) (hs : ∀ (k : A1 → nc_S → Prop) (x0 : A1) (σ : nc_S), I x0 σ → (∀ (x0' : A1) (σ' : nc_S), I x0' σ' → μ x0' σ' < μ x0 σ → k x0' σ') → b k x0 σ) (x0 : A1) (σ : nc_S) (h : I x0 σ) : ∃ n, nc_l1 b n x0 σ := by
  have key : ∀ (n : Nat) (x0 : A1) (σ : nc_S), I x0 σ → μ x0 σ < n → nc_l1 b n x0 σ := by
    intro n
    induction n with
    | zero => intro x0 σ _ h; exact absurd h (Nat.not_lt_zero _)
    | succ n ih => intro x0 σ hi h; exact hs _ x0 σ hi (fun x0' σ' hi' h' => ih x0' σ' hi' (by omega))
  exact ⟨_, key _ x0 σ h (Nat.lt_succ_self _)⟩
def nc_l2 {A1 A2 : Type} (b : (A1 → A2 → nc_S → Prop) → A1 → A2 → nc_S → Prop) : Nat → A1 → A2 → nc_S → Prop
  | 0, _, _, _ => False
  | n + 1, x0, x1, σ => b (nc_l2 b n) x0 x1 σ
/-- the loop's rule: an invariant and a measure -/
theorem nc_w2 {A1 A2 : Type} {b : (A1 → A2 → nc_S → Prop) → A1 → A2 → nc_S → Prop} (I : A1 → A2 → nc_S → Prop) (μ : A1 → A2 → nc_S → Nat) (hs : ∀ (k : A1 → A2 → nc_S → Prop) (x0 : A1) (x1 : A2) (σ : nc_S), I x0 x1 σ → (∀ (x0' : A1) (x1' : A2) (σ' : nc_S), I x0' x1' σ' → μ x0' x1' σ' < μ x0 x1 σ → k x0' x1' σ') → b k x0 x1 σ) (x0 : A1) (x1 : A2) (σ : nc_S) (h : I x0 x1 σ) : ∃ n, nc_l2 b n x0 x1 σ := by
  have key : ∀ (n : Nat) (x0 : A1) (x1 : A2) (σ : nc_S), I x0 x1 σ → μ x0 x1 σ < n → nc_l2 b n x0 x1 σ := by
    intro n
    induction n with
    | zero => intro x0 x1 σ _ h; exact absurd h (Nat.not_lt_zero _)
    | succ n ih => intro x0 x1 σ hi h; exact hs _ x0 x1 σ hi (fun x0' x1' σ' hi' h' => ih x0' x1' σ' hi' (by omega))
  exact ⟨_, key _ x0 x1 σ h (Nat.lt_succ_self _)⟩
def nc_l3 {A1 A2 A3 : Type} (b : (A1 → A2 → A3 → nc_S → Prop) → A1 → A2 → A3 → nc_S → Prop) : Nat → A1 → A2 → A3 → nc_S → Prop
  | 0, _, _, _, _ => False
  | n + 1, x0, x1, x2, σ => b (nc_l3 b n) x0 x1 x2 σ
/-- the loop's rule: an invariant and a measure -/
theorem nc_w3 {A1 A2 A3 : Type} {b : (A1 → A2 → A3 → nc_S → Prop) → A1 → A2 → A3 → nc_S → Prop} (I : A1 → A2 → A3 → nc_S → Prop) (μ : A1 → A2 → A3 → nc_S → Nat) (hs : ∀ (k : A1 → A2 → A3 → nc_S → Prop) (x0 : A1) (x1 : A2) (x2 : A3) (σ : nc_S), I x0 x1 x2 σ → (∀ (x0' : A1) (x1' : A2) (x2' : A3) (σ' : nc_S), I x0' x1' x2' σ' → μ x0' x1' x2' σ' < μ x0 x1 x2 σ → k x0' x1' x2' σ') → b k x0 x1 x2 σ) (x0 : A1) (x1 : A2) (x2 : A3) (σ : nc_S) (h : I x0 x1 x2 σ) : ∃ n, nc_l3 b n x0 x1 x2 σ := by
  have key : ∀ (n : Nat) (x0 : A1) (x1 : A2) (x2 : A3) (σ : nc_S), I x0 x1 x2 σ → μ x0 x1 x2 σ < n → nc_l3 b n x0 x1 x2 σ := by
    intro n
    induction n with
    | zero => intro x0 x1 x2 σ _ h; exact absurd h (Nat.not_lt_zero _)
    | succ n ih => intro x0 x1 x2 σ hi h; exact hs _ x0 x1 x2 σ hi (fun x0' x1' x2' σ' hi' h' => ih x0' x1' x2' σ' hi' (by omega))
  exact ⟨_, key _ x0 x1 x2 σ h (Nat.lt_succ_self _)⟩
def nc_l4 {A1 A2 A3 A4 : Type} (b : (A1 → A2 → A3 → A4 → nc_S → Prop) → A1 → A2 → A3 → A4 → nc_S → Prop) : Nat → A1 → A2 → A3 → A4 → nc_S → Prop
  | 0, _, _, _, _, _ => False
  | n + 1, x0, x1, x2, x3, σ => b (nc_l4 b n) x0 x1 x2 x3 σ
/-- the loop's rule: an invariant and a measure -/
theorem nc_w4 {A1 A2 A3 A4 : Type} {b : (A1 → A2 → A3 → A4 → nc_S → Prop) → A1 → A2 → A3 → A4 → nc_S → Prop} (I : A1 → A2 → A3 → A4 → nc_S → Prop) (μ : A1 → A2 → A3 → A4 → nc_S → Nat) (hs : ∀ (k : A1 → A2 → A3 → A4 → nc_S → Prop) (x0 : A1) (x1 : A2) (x2 : A3) (x3 : A4) (σ : nc_S), I x0 x1 x2 x3 σ → (∀ (x0' : A1) (x1' : A2) (x2' : A3) (x3' : A4) (σ' : nc_S), I x0' x1' x2' x3' σ' → μ x0' x1' x2' x3' σ' < μ x0 x1 x2 x3 σ → k x0' x1' x2' x3' σ') → b k x0 x1 x2 x3 σ) (x0 : A1) (x1 : A2) (x2 : A3) (x3 : A4) (σ : nc_S) (h : I x0 x1 x2 x3 σ) : ∃ n, nc_l4 b n x0 x1 x2 x3 σ := by
  have key : ∀ (n : Nat) (x0 : A1) (x1 : A2) (x2 : A3) (x3 : A4) (σ : nc_S), I x0 x1 x2 x3 σ → μ x0 x1 x2 x3 σ < n → nc_l4 b n x0 x1 x2 x3 σ := by
    intro n
    induction n with
    | zero => intro x0 x1 x2 x3 σ _ h; exact absurd h (Nat.not_lt_zero _)
    | succ n ih => intro x0 x1 x2 x3 σ hi h; exact hs _ x0 x1 x2 x3 σ hi (fun x0' x1' x2' x3' σ' hi' h' => ih x0' x1' x2' x3' σ' hi' (by omega))
  exact ⟨_, key _ x0 x1 x2 x3 σ h (Nat.lt_succ_self _)⟩
def nc_l5 {A1 A2 A3 A4 A5 : Type} (b : (A1 → A2 → A3 → A4 → A5 → nc_S → Prop) → A1 → A2 → A3 → A4 → A5 → nc_S → Prop) : Nat → A1 → A2 → A3 → A4 → A5 → nc_S → Prop
  | 0, _, _, _, _, _, _ => False
  | n + 1, x0, x1, x2, x3, x4, σ => b (nc_l5 b n) x0 x1 x2 x3 x4 σ
/-- the loop's rule: an invariant and a measure -/
theorem nc_w5 {A1 A2 A3 A4 A5 : Type} {b : (A1 → A2 → A3 → A4 → A5 → nc_S → Prop) → A1 → A2 → A3 → A4 → A5 → nc_S → Prop} (I : A1 → A2 → A3 → A4 → A5 → nc_S → Prop) (μ : A1 → A2 → A3 → A4 → A5 → nc_S → Nat) (hs : ∀ (k : A1 → A2 → A3 → A4 → A5 → nc_S → Prop) (x0 : A1) (x1 : A2) (x2 : A3) (x3 : A4) (x4 : A5) (σ : nc_S), I x0 x1 x2 x3 x4 σ → (∀ (x0' : A1) (x1' : A2) (x2' : A3) (x3' : A4) (x4' : A5) (σ' : nc_S), I x0' x1' x2' x3' x4' σ' → μ x0' x1' x2' x3' x4' σ' < μ x0 x1 x2 x3 x4 σ → k x0' x1' x2' x3' x4' σ') → b k x0 x1 x2 x3 x4 σ) (x0 : A1) (x1 : A2) (x2 : A3) (x3 : A4) (x4 : A5) (σ : nc_S) (h : I x0 x1 x2 x3 x4 σ) : ∃ n, nc_l5 b n x0 x1 x2 x3 x4 σ := by
  have key : ∀ (n : Nat) (x0 : A1) (x1 : A2) (x2 : A3) (x3 : A4) (x4 : A5) (σ : nc_S), I x0 x1 x2 x3 x4 σ → μ x0 x1 x2 x3 x4 σ < n → nc_l5 b n x0 x1 x2 x3 x4 σ := by
    intro n
    induction n with
    | zero => intro x0 x1 x2 x3 x4 σ _ h; exact absurd h (Nat.not_lt_zero _)
    | succ n ih => intro x0 x1 x2 x3 x4 σ hi h; exact hs _ x0 x1 x2 x3 x4 σ hi (fun x0' x1' x2' x3' x4' σ' hi' h' => ih x0' x1' x2' x3' x4' σ' hi' (by omega))
  exact ⟨_, key _ x0 x1 x2 x3 x4 σ h (Nat.lt_succ_self _)⟩
def nc_l6 {A1 A2 A3 A4 A5 A6 : Type} (b : (A1 → A2 → A3 → A4 → A5 → A6 → nc_S → Prop) → A1 → A2 → A3 → A4 → A5 → A6 → nc_S → Prop) : Nat → A1 → A2 → A3 → A4 → A5 → A6 → nc_S → Prop
  | 0, _, _, _, _, _, _, _ => False
  | n + 1, x0, x1, x2, x3, x4, x5, σ => b (nc_l6 b n) x0 x1 x2 x3 x4 x5 σ
/-- the loop's rule: an invariant and a measure -/
theorem nc_w6 {A1 A2 A3 A4 A5 A6 : Type} {b : (A1 → A2 → A3 → A4 → A5 → A6 → nc_S → Prop) → A1 → A2 → A3 → A4 → A5 → A6 → nc_S → Prop} (I : A1 → A2 → A3 → A4 → A5 → A6 → nc_S → Prop) (μ : A1 → A2 → A3 → A4 → A5 → A6 → nc_S → Nat) (hs : ∀ (k : A1 → A2 → A3 → A4 → A5 → A6 → nc_S → Prop) (x0 : A1) (x1 : A2) (x2 : A3) (x3 : A4) (x4 : A5) (x5 : A6) (σ : nc_S), I x0 x1 x2 x3 x4 x5 σ → (∀ (x0' : A1) (x1' : A2) (x2' : A3) (x3' : A4) (x4' : A5) (x5' : A6) (σ' : nc_S), I x0' x1' x2' x3' x4' x5' σ' → μ x0' x1' x2' x3' x4' x5' σ' < μ x0 x1 x2 x3 x4 x5 σ → k x0' x1' x2' x3' x4' x5' σ') → b k x0 x1 x2 x3 x4 x5 σ) (x0 : A1) (x1 : A2) (x2 : A3) (x3 : A4) (x4 : A5) (x5 : A6) (σ : nc_S) (h : I x0 x1 x2 x3 x4 x5 σ) : ∃ n, nc_l6 b n x0 x1 x2 x3 x4 x5 σ := by
  have key : ∀ (n : Nat) (x0 : A1) (x1 : A2) (x2 : A3) (x3 : A4) (x4 : A5) (x5 : A6) (σ : nc_S), I x0 x1 x2 x3 x4 x5 σ → μ x0 x1 x2 x3 x4 x5 σ < n → nc_l6 b n x0 x1 x2 x3 x4 x5 σ := by
    intro n
    induction n with
    | zero => intro x0 x1 x2 x3 x4 x5 σ _ h; exact absurd h (Nat.not_lt_zero _)
    | succ n ih => intro x0 x1 x2 x3 x4 x5 σ hi h; exact hs _ x0 x1 x2 x3 x4 x5 σ hi (fun x0' x1' x2' x3' x4' x5' σ' hi' h' => ih x0' x1' x2' x3' x4' x5' σ' hi' (by omega))
  exact ⟨_, key _ x0 x1 x2 x3 x4 x5 σ h (Nat.lt_succ_self _)⟩
def nc_l7 {A1 A2 A3 A4 A5 A6 A7 : Type} (b : (A1 → A2 → A3 → A4 → A5 → A6 → A7 → nc_S → Prop) → A1 → A2 → A3 → A4 → A5 → A6 → A7 → nc_S → Prop) : Nat → A1 → A2 → A3 → A4 → A5 → A6 → A7 → nc_S → Prop
  | 0, _, _, _, _, _, _, _, _ => False
  | n + 1, x0, x1, x2, x3, x4, x5, x6, σ => b (nc_l7 b n) x0 x1 x2 x3 x4 x5 x6 σ
/-- the loop's rule: an invariant and a measure -/
theorem nc_w7 {A1 A2 A3 A4 A5 A6 A7 : Type} {b : (A1 → A2 → A3 → A4 → A5 → A6 → A7 → nc_S → Prop) → A1 → A2 → A3 → A4 → A5 → A6 → A7 → nc_S → Prop} (I : A1 → A2 → A3 → A4 → A5 → A6 → A7 → nc_S → Prop) (μ : A1 → A2 → A3 → A4 → A5 → A6 → A7 → nc_S → Nat) (hs : ∀ (k : A1 → A2 → A3 → A4 → A5 → A6 → A7 → nc_S → Prop) (x0 : A1) (x1 : A2) (x2 : A3) (x3 : A4) (x4 : A5) (x5 : A6) (x6 : A7) (σ : nc_S), I x0 x1 x2 x3 x4 x5 x6 σ → (∀ (x0' : A1) (x1' : A2) (x2' : A3) (x3' : A4) (x4' : A5) (x5' : A6) (x6' : A7) (σ' : nc_S), I x0' x1' x2' x3' x4' x5' x6' σ' → μ x0' x1' x2' x3' x4' x5' x6' σ' < μ x0 x1 x2 x3 x4 x5 x6 σ → k x0' x1' x2' x3' x4' x5' x6' σ') → b k x0 x1 x2 x3 x4 x5 x6 σ) (x0 : A1) (x1 : A2) (x2 : A3) (x3 : A4) (x4 : A5) (x5 : A6) (x6 : A7) (σ : nc_S) (h : I x0 x1 x2 x3 x4 x5 x6 σ) : ∃ n, nc_l7 b n x0 x1 x2 x3 x4 x5 x6 σ := by
  have key : ∀ (n : Nat) (x0 : A1) (x1 : A2) (x2 : A3) (x3 : A4) (x4 : A5) (x5 : A6) (x6 : A7) (σ : nc_S), I x0 x1 x2 x3 x4 x5 x6 σ → μ x0 x1 x2 x3 x4 x5 x6 σ < n → nc_l7 b n x0 x1 x2 x3 x4 x5 x6 σ := by
    intro n
    induction n with
    | zero => intro x0 x1 x2 x3 x4 x5 x6 σ _ h; exact absurd h (Nat.not_lt_zero _)
    | succ n ih => intro x0 x1 x2 x3 x4 x5 x6 σ hi h; exact hs _ x0 x1 x2 x3 x4 x5 x6 σ hi (fun x0' x1' x2' x3' x4' x5' x6' σ' hi' h' => ih x0' x1' x2' x3' x4' x5' x6' σ' hi' (by omega))
  exact ⟨_, key _ x0 x1 x2 x3 x4 x5 x6 σ h (Nat.lt_succ_self _)⟩
def nc_l8 {A1 A2 A3 A4 A5 A6 A7 A8 : Type} (b : (A1 → A2 → A3 → A4 → A5 → A6 → A7 → A8 → nc_S → Prop) → A1 → A2 → A3 → A4 → A5 → A6 → A7 → A8 → nc_S → Prop) : Nat → A1 → A2 → A3 → A4 → A5 → A6 → A7 → A8 → nc_S → Prop
  | 0, _, _, _, _, _, _, _, _, _ => False
  | n + 1, x0, x1, x2, x3, x4, x5, x6, x7, σ => b (nc_l8 b n) x0 x1 x2 x3 x4 x5 x6 x7 σ
/-- the loop's rule: an invariant and a measure -/
theorem nc_w8 {A1 A2 A3 A4 A5 A6 A7 A8 : Type} {b : (A1 → A2 → A3 → A4 → A5 → A6 → A7 → A8 → nc_S → Prop) → A1 → A2 → A3 → A4 → A5 → A6 → A7 → A8 → nc_S → Prop} (I : A1 → A2 → A3 → A4 → A5 → A6 → A7 → A8 → nc_S → Prop) (μ : A1 → A2 → A3 → A4 → A5 → A6 → A7 → A8 → nc_S → Nat) (hs : ∀ (k : A1 → A2 → A3 → A4 → A5 → A6 → A7 → A8 → nc_S → Prop) (x0 : A1) (x1 : A2) (x2 : A3) (x3 : A4) (x4 : A5) (x5 : A6) (x6 : A7) (x7 : A8) (σ : nc_S), I x0 x1 x2 x3 x4 x5 x6 x7 σ → (∀ (x0' : A1) (x1' : A2) (x2' : A3) (x3' : A4) (x4' : A5) (x5' : A6) (x6' : A7) (x7' : A8) (σ' : nc_S), I x0' x1' x2' x3' x4' x5' x6' x7' σ' → μ x0' x1' x2' x3' x4' x5' x6' x7' σ' < μ x0 x1 x2 x3 x4 x5 x6 x7 σ → k x0' x1' x2' x3' x4' x5' x6' x7' σ') → b k x0 x1 x2 x3 x4 x5 x6 x7 σ) (x0 : A1) (x1 : A2) (x2 : A3) (x3 : A4) (x4 : A5) (x5 : A6) (x6 : A7) (x7 : A8) (σ : nc_S) (h : I x0 x1 x2 x3 x4 x5 x6 x7 σ) : ∃ n, nc_l8 b n x0 x1 x2 x3 x4 x5 x6 x7 σ := by
  have key : ∀ (n : Nat) (x0 : A1) (x1 : A2) (x2 : A3) (x3 : A4) (x4 : A5) (x5 : A6) (x6 : A7) (x7 : A8) (σ : nc_S), I x0 x1 x2 x3 x4 x5 x6 x7 σ → μ x0 x1 x2 x3 x4 x5 x6 x7 σ < n → nc_l8 b n x0 x1 x2 x3 x4 x5 x6 x7 σ := by
    intro n
    induction n with
    | zero => intro x0 x1 x2 x3 x4 x5 x6 x7 σ _ h; exact absurd h (Nat.not_lt_zero _)
    | succ n ih => intro x0 x1 x2 x3 x4 x5 x6 x7 σ hi h; exact hs _ x0 x1 x2 x3 x4 x5 x6 x7 σ hi (fun x0' x1' x2' x3' x4' x5' x6' x7' σ' hi' h' => ih x0' x1' x2' x3' x4' x5' x6' x7' σ' hi' (by omega))
  exact ⟨_, key _ x0 x1 x2 x3 x4 x5 x6 x7 σ h (Nat.lt_succ_self _)⟩
def nc_l9 {A1 A2 A3 A4 A5 A6 A7 A8 A9 : Type} (b : (A1 → A2 → A3 → A4 → A5 → A6 → A7 → A8 → A9 → nc_S → Prop) → A1 → A2 → A3 → A4 → A5 → A6 → A7 → A8 → A9 → nc_S → Prop) : Nat → A1 → A2 → A3 → A4 → A5 → A6 → A7 → A8 → A9 → nc_S → Prop
  | 0, _, _, _, _, _, _, _, _, _, _ => False
  | n + 1, x0, x1, x2, x3, x4, x5, x6, x7, x8, σ => b (nc_l9 b n) x0 x1 x2 x3 x4 x5 x6 x7 x8 σ
/-- the loop's rule: an invariant and a measure -/
theorem nc_w9 {A1 A2 A3 A4 A5 A6 A7 A8 A9 : Type} {b : (A1 → A2 → A3 → A4 → A5 → A6 → A7 → A8 → A9 → nc_S → Prop) → A1 → A2 → A3 → A4 → A5 → A6 → A7 → A8 → A9 → nc_S → Prop} (I : A1 → A2 → A3 → A4 → A5 → A6 → A7 → A8 → A9 → nc_S → Prop) (μ : A1 → A2 → A3 → A4 → A5 → A6 → A7 → A8 → A9 → nc_S → Nat) (hs : ∀ (k : A1 → A2 → A3 → A4 → A5 → A6 → A7 → A8 → A9 → nc_S → Prop) (x0 : A1) (x1 : A2) (x2 : A3) (x3 : A4) (x4 : A5) (x5 : A6) (x6 : A7) (x7 : A8) (x8 : A9) (σ : nc_S), I x0 x1 x2 x3 x4 x5 x6 x7 x8 σ → (∀ (x0' : A1) (x1' : A2) (x2' : A3) (x3' : A4) (x4' : A5) (x5' : A6) (x6' : A7) (x7' : A8) (x8' : A9) (σ' : nc_S), I x0' x1' x2' x3' x4' x5' x6' x7' x8' σ' → μ x0' x1' x2' x3' x4' x5' x6' x7' x8' σ' < μ x0 x1 x2 x3 x4 x5 x6 x7 x8 σ → k x0' x1' x2' x3' x4' x5' x6' x7' x8' σ') → b k x0 x1 x2 x3 x4 x5 x6 x7 x8 σ) (x0 : A1) (x1 : A2) (x2 : A3) (x3 : A4) (x4 : A5) (x5 : A6) (x6 : A7) (x7 : A8) (x8 : A9) (σ : nc_S) (h : I x0 x1 x2 x3 x4 x5 x6 x7 x8 σ) : ∃ n, nc_l9 b n x0 x1 x2 x3 x4 x5 x6 x7 x8 σ := by
  have key : ∀ (n : Nat) (x0 : A1) (x1 : A2) (x2 : A3) (x3 : A4) (x4 : A5) (x5 : A6) (x6 : A7) (x7 : A8) (x8 : A9) (σ : nc_S), I x0 x1 x2 x3 x4 x5 x6 x7 x8 σ → μ x0 x1 x2 x3 x4 x5 x6 x7 x8 σ < n → nc_l9 b n x0 x1 x2 x3 x4 x5 x6 x7 x8 σ := by
    intro n
    induction n with
    | zero => intro x0 x1 x2 x3 x4 x5 x6 x7 x8 σ _ h; exact absurd h (Nat.not_lt_zero _)
    | succ n ih => intro x0 x1 x2 x3 x4 x5 x6 x7 x8 σ hi h; exact hs _ x0 x1 x2 x3 x4 x5 x6 x7 x8 σ hi (fun x0' x1' x2' x3' x4' x5' x6' x7' x8' σ' hi' h' => ih x0' x1' x2' x3' x4' x5' x6' x7' x8' σ' hi' (by omega))
  exact ⟨_, key _ x0 x1 x2 x3 x4 x5 x6 x7 x8 σ h (Nat.lt_succ_self _)⟩
def nc_l10 {A1 A2 A3 A4 A5 A6 A7 A8 A9 B1 : Type} (b : (A1 → A2 → A3 → A4 → A5 → A6 → A7 → A8 → A9 → B1 → nc_S → Prop) → A1 → A2 → A3 → A4 → A5 → A6 → A7 → A8 → A9 → B1 → nc_S → Prop) : Nat → A1 → A2 → A3 → A4 → A5 → A6 → A7 → A8 → A9 → B1 → nc_S → Prop
  | 0, _, _, _, _, _, _, _, _, _, _, _ => False
  | n + 1, x0, x1, x2, x3, x4, x5, x6, x7, x8, x9, σ => b (nc_l10 b n) x0 x1 x2 x3 x4 x5 x6 x7 x8 x9 σ
/-- the loop's rule: an invariant and a measure -/
theorem nc_w10 {A1 A2 A3 A4 A5 A6 A7 A8 A9 B1 : Type} {b : (A1 → A2 → A3 → A4 → A5 → A6 → A7 → A8 → A9 → B1 → nc_S → Prop) → A1 → A2 → A3 → A4 → A5 → A6 → A7 → A8 → A9 → B1 → nc_S → Prop} (I : A1 → A2 → A3 → A4 → A5 → A6 → A7 → A8 → A9 → B1 → nc_S → Prop) (μ : A1 → A2 → A3 → A4 → A5 → A6 → A7 → A8 → A9 → B1 → nc_S → Nat) (hs : ∀ (k : A1 → A2 → A3 → A4 → A5 → A6 → A7 → A8 → A9 → B1 → nc_S → Prop) (x0 : A1) (x1 : A2) (x2 : A3) (x3 : A4) (x4 : A5) (x5 : A6) (x6 : A7) (x7 : A8) (x8 : A9) (x9 : B1) (σ : nc_S), I x0 x1 x2 x3 x4 x5 x6 x7 x8 x9 σ → (∀ (x0' : A1) (x1' : A2) (x2' : A3) (x3' : A4) (x4' : A5) (x5' : A6) (x6' : A7) (x7' : A8) (x8' : A9) (x9' : B1) (σ' : nc_S), I x0' x1' x2' x3' x4' x5' x6' x7' x8' x9' σ' → μ x0' x1' x2' x3' x4' x5' x6' x7' x8' x9' σ' < μ x0 x1 x2 x3 x4 x5 x6 x7 x8 x9 σ → k x0' x1' x2' x3' x4' x5' x6' x7' x8' x9' σ') → b k x0 x1 x2 x3 x4 x5 x6 x7 x8 x9 σ) (x0 : A1) (x1 : A2) (x2 : A3) (x3 : A4) (x4 : A5) (x5 : A6) (x6 : A7) (x7 : A8) (x8 : A9) (x9 : B1) (σ : nc_S) (h : I x0 x1 x2 x3 x4 x5 x6 x7 x8 x9 σ) : ∃ n, nc_l10 b n x0 x1 x2 x3 x4 x5 x6 x7 x8 x9 σ := by
  have key : ∀ (n : Nat) (x0 : A1) (x1 : A2) (x2 : A3) (x3 : A4) (x4 : A5) (x5 : A6) (x6 : A7) (x7 : A8) (x8 : A9) (x9 : B1) (σ : nc_S), I x0 x1 x2 x3 x4 x5 x6 x7 x8 x9 σ → μ x0 x1 x2 x3 x4 x5 x6 x7 x8 x9 σ < n → nc_l10 b n x0 x1 x2 x3 x4 x5 x6 x7 x8 x9 σ := by
    intro n
    induction n with
    | zero => intro x0 x1 x2 x3 x4 x5 x6 x7 x8 x9 σ _ h; exact absurd h (Nat.not_lt_zero _)
    | succ n ih => intro x0 x1 x2 x3 x4 x5 x6 x7 x8 x9 σ hi h; exact hs _ x0 x1 x2 x3 x4 x5 x6 x7 x8 x9 σ hi (fun x0' x1' x2' x3' x4' x5' x6' x7' x8' x9' σ' hi' h' => ih x0' x1' x2' x3' x4' x5' x6' x7' x8' x9' σ' hi' (by omega))
  exact ⟨_, key _ x0 x1 x2 x3 x4 x5 x6 x7 x8 x9 σ h (Nat.lt_succ_self _)⟩
def nc_l11 {A1 A2 A3 A4 A5 A6 A7 A8 A9 B1 B2 : Type} (b : (A1 → A2 → A3 → A4 → A5 → A6 → A7 → A8 → A9 → B1 → B2 → nc_S → Prop) → A1 → A2 → A3 → A4 → A5 → A6 → A7 → A8 → A9 → B1 → B2 → nc_S → Prop) : Nat → A1 → A2 → A3 → A4 → A5 → A6 → A7 → A8 → A9 → B1 → B2 → nc_S → Prop
  | 0, _, _, _, _, _, _, _, _, _, _, _, _ => False
  | n + 1, x0, x1, x2, x3, x4, x5, x6, x7, x8, x9, x10, σ => b (nc_l11 b n) x0 x1 x2 x3 x4 x5 x6 x7 x8 x9 x10 σ
/-- the loop's rule: an invariant and a measure -/
theorem nc_w11 {A1 A2 A3 A4 A5 A6 A7 A8 A9 B1 B2 : Type} {b : (A1 → A2 → A3 → A4 → A5 → A6 → A7 → A8 → A9 → B1 → B2 → nc_S → Prop) → A1 → A2 → A3 → A4 → A5 → A6 → A7 → A8 → A9 → B1 → B2 → nc_S → Prop} (I : A1 → A2 → A3 → A4 → A5 → A6 → A7 → A8 → A9 → B1 → B2 → nc_S → Prop) (μ : A1 → A2 → A3 → A4 → A5 → A6 → A7 → A8 → A9 → B1 → B2 → nc_S → Nat) (hs : ∀ (k : A1 → A2 → A3 → A4 → A5 → A6 → A7 → A8 → A9 → B1 → B2 → nc_S → Prop) (x0 : A1) (x1 : A2) (x2 : A3) (x3 : A4) (x4 : A5) (x5 : A6) (x6 : A7) (x7 : A8) (x8 : A9) (x9 : B1) (x10 : B2) (σ : nc_S), I x0 x1 x2 x3 x4 x5 x6 x7 x8 x9 x10 σ → (∀ (x0' : A1) (x1' : A2) (x2' : A3) (x3' : A4) (x4' : A5) (x5' : A6) (x6' : A7) (x7' : A8) (x8' : A9) (x9' : B1) (x10' : B2) (σ' : nc_S), I x0' x1' x2' x3' x4' x5' x6' x7' x8' x9' x10' σ' → μ x0' x1' x2' x3' x4' x5' x6' x7' x8' x9' x10' σ' < μ x0 x1 x2 x3 x4 x5 x6 x7 x8 x9 x10 σ → k x0' x1' x2' x3' x4' x5' x6' x7' x8' x9' x10' σ') → b k x0 x1 x2 x3 x4 x5 x6 x7 x8 x9 x10 σ) (x0 : A1) (x1 : A2) (x2 : A3) (x3 : A4) (x4 : A5) (x5 : A6) (x6 : A7) (x7 : A8) (x8 : A9) (x9 : B1) (x10 : B2) (σ : nc_S) (h : I x0 x1 x2 x3 x4 x5 x6 x7 x8 x9 x10 σ) : ∃ n, nc_l11 b n x0 x1 x2 x3 x4 x5 x6 x7 x8 x9 x10 σ := by
  have key : ∀ (n : Nat) (x0 : A1) (x1 : A2) (x2 : A3) (x3 : A4) (x4 : A5) (x5 : A6) (x6 : A7) (x7 : A8) (x8 : A9) (x9 : B1) (x10 : B2) (σ : nc_S), I x0 x1 x2 x3 x4 x5 x6 x7 x8 x9 x10 σ → μ x0 x1 x2 x3 x4 x5 x6 x7 x8 x9 x10 σ < n → nc_l11 b n x0 x1 x2 x3 x4 x5 x6 x7 x8 x9 x10 σ := by
    intro n
    induction n with
    | zero => intro x0 x1 x2 x3 x4 x5 x6 x7 x8 x9 x10 σ _ h; exact absurd h (Nat.not_lt_zero _)
    | succ n ih => intro x0 x1 x2 x3 x4 x5 x6 x7 x8 x9 x10 σ hi h; exact hs _ x0 x1 x2 x3 x4 x5 x6 x7 x8 x9 x10 σ hi (fun x0' x1' x2' x3' x4' x5' x6' x7' x8' x9' x10' σ' hi' h' => ih x0' x1' x2' x3' x4' x5' x6' x7' x8' x9' x10' σ' hi' (by omega))
  exact ⟨_, key _ x0 x1 x2 x3 x4 x5 x6 x7 x8 x9 x10 σ h (Nat.lt_succ_self _)⟩
def nc_l12 {A1 A2 A3 A4 A5 A6 A7 A8 A9 B1 B2 B3 : Type} (b : (A1 → A2 → A3 → A4 → A5 → A6 → A7 → A8 → A9 → B1 → B2 → B3 → nc_S → Prop) → A1 → A2 → A3 → A4 → A5 → A6 → A7 → A8 → A9 → B1 → B2 → B3 → nc_S → Prop) : Nat → A1 → A2 → A3 → A4 → A5 → A6 → A7 → A8 → A9 → B1 → B2 → B3 → nc_S → Prop
  | 0, _, _, _, _, _, _, _, _, _, _, _, _, _ => False
  | n + 1, x0, x1, x2, x3, x4, x5, x6, x7, x8, x9, x10, x11, σ => b (nc_l12 b n) x0 x1 x2 x3 x4 x5 x6 x7 x8 x9 x10 x11 σ
/-- the loop's rule: an invariant and a measure -/
theorem nc_w12 {A1 A2 A3 A4 A5 A6 A7 A8 A9 B1 B2 B3 : Type} {b : (A1 → A2 → A3 → A4 → A5 → A6 → A7 → A8 → A9 → B1 → B2 → B3 → nc_S → Prop) → A1 → A2 → A3 → A4 → A5 → A6 → A7 → A8 → A9 → B1 → B2 → B3 → nc_S → Prop} (I : A1 → A2 → A3 → A4 → A5 → A6 → A7 → A8 → A9 → B1 → B2 → B3 → nc_S → Prop) (μ : A1 → A2 → A3 → A4 → A5 → A6 → A7 → A8 → A9 → B1 → B2 → B3 → nc_S → Nat) (hs : ∀ (k : A1 → A2 → A3 → A4 → A5 → A6 → A7 → A8 → A9 → B1 → B2 → B3 → nc_S → Prop) (x0 : A1) (x1 : A2) (x2 : A3) (x3 : A4) (x4 : A5) (x5 : A6) (x6 : A7) (x7 : A8) (x8 : A9) (x9 : B1) (x10 : B2) (x11 : B3) (σ : nc_S), I x0 x1 x2 x3 x4 x5 x6 x7 x8 x9 x10 x11 σ → (∀ (x0' : A1) (x1' : A2) (x2' : A3) (x3' : A4) (x4' : A5) (x5' : A6) (x6' : A7) (x7' : A8) (x8' : A9) (x9' : B1) (x10' : B2) (x11' : B3) (σ' : nc_S), I x0' x1' x2' x3' x4' x5' x6' x7' x8' x9' x10' x11' σ' → μ x0' x1' x2' x3' x4' x5' x6' x7' x8' x9' x10' x11' σ' < μ x0 x1 x2 x3 x4 x5 x6 x7 x8 x9 x10 x11 σ → k x0' x1' x2' x3' x4' x5' x6' x7' x8' x9' x10' x11' σ') → b k x0 x1 x2 x3 x4 x5 x6 x7 x8 x9 x10 x11 σ) (x0 : A1) (x1 : A2) (x2 : A3) (x3 : A4) (x4 : A5) (x5 : A6) (x6 : A7) (x7 : A8) (x8 : A9) (x9 : B1) (x10 : B2) (x11 : B3) (σ : nc_S) (h : I x0 x1 x2 x3 x4 x5 x6 x7 x8 x9 x10 x11 σ) : ∃ n, nc_l12 b n x0 x1 x2 x3 x4 x5 x6 x7 x8 x9 x10 x11 σ := by
  have key : ∀ (n : Nat) (x0 : A1) (x1 : A2) (x2 : A3) (x3 : A4) (x4 : A5) (x5 : A6) (x6 : A7) (x7 : A8) (x8 : A9) (x9 : B1) (x10 : B2) (x11 : B3) (σ : nc_S), I x0 x1 x2 x3 x4 x5 x6 x7 x8 x9 x10 x11 σ → μ x0 x1 x2 x3 x4 x5 x6 x7 x8 x9 x10 x11 σ < n → nc_l12 b n x0 x1 x2 x3 x4 x5 x6 x7 x8 x9 x10 x11 σ := by
    intro n
    induction n with
    | zero => intro x0 x1 x2 x3 x4 x5 x6 x7 x8 x9 x10 x11 σ _ h; exact absurd h (Nat.not_lt_zero _)
    | succ n ih => intro x0 x1 x2 x3 x4 x5 x6 x7 x8 x9 x10 x11 σ hi h; exact hs _ x0 x1 x2 x3 x4 x5 x6 x7 x8 x9 x10 x11 σ hi (fun x0' x1' x2' x3' x4' x5' x6' x7' x8' x9' x10' x11' σ' hi' h' => ih x0' x1' x2' x3' x4' x5' x6' x7' x8' x9' x10' x11' σ' hi' (by omega))
  exact ⟨_, key _ x0 x1 x2 x3 x4 x5 x6 x7 x8 x9 x10 x11 σ h (Nat.lt_succ_self _)⟩
theorem nc_zfit {v : Int32} (h : nc_z v) : fits .boolean (.int v) = true := by
  unfold nc_z at h
  have e : v &&& 1 = v := by simpa [narrow] using h
  obtain ⟨j, hj, he⟩ := pk_andE v (m := 1) 1 rfl
  rw [e] at he
  rcases (show j = 0 ∨ j = 1 by omega) with q | q
  · subst q; subst he; decide
  · subst q; subst he; decide
section NCMORE
variable {p : Program} {l : Launch} {e : Env} {R : Room} {s : State} {m : MethodId} {args : Array Value} {below : List Frame} {meth : Method} {c : Code} {H : Heap} {locs : List Loc} {cells slots : Nat} {Q : State → Prop}
variable {cc : ByteArray} {pc : Nat} {ls : Array Slot} {rest : List Value} {D : va_G} {cl : List vw_C} {A : Nat → Prop} {a : Nat} {tys : List (ClassId × FieldType)} {H0 : Heap} {S : Type} {Wd : S → va_W} {σ : S} {k q0 ci n : Nat} {cA : ClassId}
theorem nc_getN {own ref C host : String} {T : u_T} {N index : Nat} {Ts : List Cond} {fs : S → List Value} {v : Value} (hx : p.tables.exec = Jvm.exec) (hb : c.code = cc) (hts : ∀ w ∈ Ts, w.before args s = true) (hin : ∀ w ∈ u_ws C T N, w ∈ Ts) (hown : s.vm.findClass own = some m.cls) (hK : va_K D cl tys s) (hX : nc_X A H0 D cl (Wd σ) H locs) (hO : ∀ σ, (Wd σ)[q0]? = some (a, .inr (ci, fs σ))) (hc : cl[ci]? = some (C, T, N)) (hk : k < N) (hlink : (Cond.fieldLinkNest own index ref (T k).2.1 (T k).2.2.1 host).before args s = true) (hsame : ∀ x, s.fieldFound? (T k).1 (T k).2.1 (T k).2.2.1 = some x → s.fieldFound? ref (T k).2.1 (T k).2.2.1 = some x) (hv : (fs σ)[k]? = some v) (hdg : decode cc pc = .ok (.getfield index, 3)) (kk : W p l e R s m args below meth c H locs cells slots Q (F0 m (pc + 3) ls (v :: rest))) : W p l e R s m args below meth c H locs cells slots Q (F0 m pc ls (.ref a :: rest)) := va_getN hx hb hts hin hown hK hX.1 q0 (hO σ) hc k hk hlink hsame hv hdg kk
/-- a row of a grid -/
theorem nc_aldg {g : Nat → Nat} (hx : p.tables.exec = Jvm.exec) (hb : c.code = cc) (hK : va_K D cl tys s) (hX : nc_X A H0 D cl (Wd σ) H locs) (hg : ∀ σ, (Wd σ)[q0]? = some (a, .inl (cA, n, .inr (.inr (.inr (.inr fun i => some (g i))))))) (t0 : Nat) (ht : tys[t0]? = some (cA, .array .int)) {i : Int32} (hin : vp_in i n) (hdg : decode cc pc = .ok (.aaload, 1)) (kk : W p l e R s m args below meth c H locs cells slots Q (F0 m (pc + 1) ls (.ref (g i.toNatClampNeg) :: rest))) : W p l e R s m args below meth c H locs cells slots Q (F0 m pc ls (.int i :: .ref a :: rest)) := by
  have hlt : i.toNatClampNeg < n := Nat.not_le.mp fun q => hin (Or.inr q)
  exact W.aald (v := .ref (g i.toNatClampNeg)) (ty := .array .int) hx hb (hX.1 q0 _ (hg σ)) ((hK.2 t0 _ ht).1 n (fun j => va_rf (some (g j)))) rfl (fun q => by cases q) (by show ¬ (i < 0 ∨ (arrV _ _ _).slots.size ≤ _); rw [arrV_size]; exact hin) (by show (arrV _ _ _).slots[_]? = _; rw [arrV_read _ _ hlt]; rfl) rfl rfl hdg kk
theorem nc_alen {x : S → vp_A} {ty : FieldType} {v : Int32} (hx : p.tables.exec = Jvm.exec) (hb : c.code = cc) (hK : va_K D cl tys s) (hX : nc_X A H0 D cl (Wd σ) H locs) (ha : ∀ σ, (Wd σ)[q0]? = some (a, .inl (cA, x σ))) (t0 : Nat) (ht : tys[t0]? = some (cA, ty)) (hv : Int32.ofNat (x σ).1 = v) (hdg : decode cc pc = .ok (.arraylength, 1)) (kk : W p l e R s m args below meth c H locs cells slots Q (F0 m (pc + 1) ls (.int v :: rest))) : W p l e R s m args below meth c H locs cells slots Q (F0 m pc ls (.ref a :: rest)) := va_alen hx hb hK hX.1 q0 t0 (ha σ) ht hv hdg kk
end NCMORE
theorem nc_row_app_get {n : Nat} {ad : Nat → Nat} {f : Nat → va_E} {T : va_W} {k : Nat} (h : k < n) : (nc_row n ad f ++ T)[k]? = some (ad k, f k) := by
  rw [List.getElem?_append_left (by simp [nc_row, h]), nc_row_get h]
theorem nc_row_app_set {n : Nat} {ad : Nat → Nat} {f : Nat → va_E} {T : va_W} {k : Nat} {e : va_E} (h : k < n) : (nc_row n ad f ++ T).set k (ad k, e) = nc_row n ad (va_up f k e) ++ T := by
  rw [List.set_append_left _ _ (by simp [nc_row, h]), nc_row_set]
