/-! RELATION of class and reference; small operations -/
set_option maxRecDepth 100000
/-- names that a code uses -/
def t_names (lo hi : Nat) (c : nc_code) : Prop := ∀ w ∈ c, w.1 = 1 → lo ≤ w.2 ∧ w.2 < hi
/-- a text as the reader makes it: at most 24 clauses, one worth, names by sort, at most 300 steps, small numbers -/
def t_wf (t : nc_text) : Prop := t.length ≤ 24 ∧ (t.filter fun q => q.1 == 2).length ≤ 1 ∧ ((t.map fun q => q.2.2.2.length).sum ≤ 300) ∧ ∀ q ∈ t, 1 ≤ q.1 ∧ q.1 ≤ 4 ∧ (q.1 = 1 → t_names 0 4 q.2.2.2) ∧ (q.1 = 2 → t_names 4 7 q.2.2.2) ∧ (3 ≤ q.1 → q.2.2.2 = [] ∧ q.2.1 ≤ 9999 ∧ q.2.2.1 ≤ 9999) ∧ ∀ w ∈ q.2.2.2, w.1 ≤ 22 ∧ w.2 ≤ 9999
/-- the reference's row x0 (of texts) holds the text t: where steps begin, by clauses -/
def m_text (f : Nat → Int32) (x0 : Nat) (t : nc_text) : Prop := f x0 = iI t.length ∧ ∃ at0 : Nat → Nat, ∀ (k : Nat) (q : Nat × Nat × Nat × nc_code), t[k]? = some q → f (x0 + (1 + 3 * k)) = iI q.1 ∧
  (3 ≤ q.1 → f (x0 + (1 + 3 * k) + 1) = iI q.2.1 ∧ f (x0 + (1 + 3 * k) + 2) = iI q.2.2.1) ∧
  (q.1 ≤ 2 → f (x0 + (1 + 3 * k) + 1) = iI (at0 k) ∧ f (x0 + (1 + 3 * k) + 2) = iI ((at0 k + q.2.2.2.length : Nat) : Int) ∧ at0 k + q.2.2.2.length ≤ 300 ∧ ∀ (i : Nat) (w : Nat × Nat), q.2.2.2[i]? = some w → f (x0 + 80 + 2 * (at0 k + i)) = iI w.1 ∧ f (x0 + 80 + 2 * (at0 k + i) + 1) = iI w.2)
/-- texts told and texts of the image -/
def r_txt (tt ti : Nat → Option nc_text) (V V' : nc_V) (f : Nat → Int32) : Prop := V' 0 3 ≤ V 0 3 ∧ (∀ j : Nat, j < V 0 3 → ∃ t, tt j = some t ∧ t_wf t ∧ m_text f (700 * j) t) ∧ (∀ j : Nat, j < V' 0 3 → ti j = tt j)
/-- tape and fault -/
def r_tape (σ μ : nc_S) : Prop := (∃ n : Nat, n ≤ 300 ∧ σ.1 0 3 = iI n ∧ μ.1 0 6 = iI n) ∧ (∀ j : Nat, j < 300 → ∃ b : Nat, b < 256 ∧ μ.1 6 j = iI b ∧ σ.1 1 j = (iI b).toInt8.toInt32) ∧ σ.1 0 4 = μ.1 0 7 ∧ σ.1 0 5 = μ.1 0 8
def Rel (tt ti : Nat → Option nc_text) (σ μ : nc_S) : Prop := ∃ V V' : nc_V, v_ok V ∧ v_ok V' ∧ xB V σ 11 ∧ xB V' σ 84 ∧ mB V (μ.1 1) (μ.2 3) ∧ mB V' (μ.1 2) (μ.2 4) ∧ r_txt tt ti V V' (μ.1 5) ∧ r_tape σ μ
/-- nothing but what is worked upon has changed -/
def xeq (σ σ' : nc_S) : Prop := (∀ k, 11 ≤ k → σ'.1 k = σ.1 k ∧ σ'.2 k = σ.2 k) ∧ σ'.1 0 = σ.1 0 ∧ σ'.1 1 = σ.1 1
def meq (μ μ' : nc_S) : Prop := (∀ k, k ≤ 6 → μ'.1 k = μ.1 k) ∧ (∀ k, 1 ≤ k → k ≤ 6 → μ'.2 k = μ.2 k)
theorem xeq.rf (σ : nc_S) : xeq σ σ := ⟨fun _ _ => ⟨rfl, rfl⟩, rfl, rfl⟩
theorem meq.rf (μ : nc_S) : meq μ μ := ⟨fun _ _ => rfl, fun _ _ _ => rfl⟩
theorem xeq.tr {a b c : nc_S} (h : xeq a b) (g : xeq b c) : xeq a c := ⟨fun k hk => ⟨(g.1 k hk).1.trans (h.1 k hk).1, (g.1 k hk).2.trans (h.1 k hk).2⟩, g.2.1.trans h.2.1, g.2.2.trans h.2.2⟩
theorem meq.tr {a b c : nc_S} (h : meq a b) (g : meq b c) : meq a c := ⟨fun k hk => (g.1 k hk).trans (h.1 k hk), fun k hk h2 => (g.2 k hk h2).trans (h.2 k hk h2)⟩
theorem xeq.I {σ : nc_S} {k j : Nat} {v : Int32} (h : 2 ≤ k) (h2 : k < 11) : xeq σ (nc_I σ k j v) := ⟨fun i hi => ⟨if_neg (by omega), rfl⟩, if_neg (by omega), if_neg (by omega)⟩
theorem xeq.L {σ : nc_S} {k j : Nat} {v : Int64} (h2 : k < 11) : xeq σ (nc_L σ k j v) := ⟨fun i hi => ⟨rfl, if_neg (by omega)⟩, rfl, rfl⟩
theorem meq.I {μ : nc_S} {k j : Nat} {v : Int32} (h : 7 ≤ k) : meq μ (nc_I μ k j v) := ⟨fun i hi => if_neg (by omega), fun _ _ _ => rfl⟩
theorem meq.L {μ : nc_S} {k j : Nat} {v : Int64} (h : 7 ≤ k ∨ k = 0) : meq μ (nc_L μ k j v) := ⟨fun i hi => rfl, fun i h1 h2 => if_neg (by omega)⟩
theorem xB.fr {V : nc_V} {σ σ' : nc_S} {b : Nat} (hb : 11 ≤ b) (h : ∀ k, 11 ≤ k → σ'.1 k = σ.1 k ∧ σ'.2 k = σ.2 k) (hB : xB V σ b) : xB V σ' b := by
  obtain ⟨h0, h1, h2, h3, h4, h5, h6⟩ := hB
  refine ⟨fun j hj => ?_, fun p hp => ?_, fun k hk => ?_, fun k hk j hj => ?_, fun k hk j hj => ?_, fun k hk j hj => ?_, fun k hk => ?_⟩
  · rw [(h _ (by omega)).1]; exact h0 j hj
  · rw [(h (b + 2) (by omega)).1, (h (b + 3) (by omega)).1, (h (b + 4) (by omega)).1]; exact h1 p hp
  · rw [(h _ (by omega)).1]; exact h2 k hk
  · rw [(h _ (by omega)).1]; exact h3 k hk j hj
  · rw [(h _ (by omega)).1]; exact h4 k hk j hj
  · rw [(h _ (by omega)).1]; exact h5 k hk j hj
  · rw [(h _ (by omega)).2]; exact h6 k hk
theorem xB.eq {V : nc_V} {σ σ' : nc_S} {b : Nat} (hb : 11 ≤ b) (h : xeq σ σ') (hB : xB V σ b) : xB V σ' b := hB.fr hb h.1
theorem Rel.eq {tt ti : Nat → Option nc_text} {σ σ' μ μ' : nc_S} (h : Rel tt ti σ μ) (hx : xeq σ σ') (hm : meq μ μ') : Rel tt ti σ' μ' := by
  obtain ⟨V, V', h1, h2, h3, h4, h5, h6, h7, h8⟩ := h
  refine ⟨V, V', h1, h2, h3.eq (by decide) hx, h4.eq (by decide) hx, ?_, ?_, ?_, ?_⟩
  · rw [hm.1 1 (by decide), hm.2 3 (by decide) (by decide)]; exact h5
  · rw [hm.1 2 (by decide), hm.2 4 (by decide) (by decide)]; exact h6
  · rw [hm.1 5 (by decide)]; exact h7
  · unfold r_tape; rw [hm.1 0 (by decide), hm.1 6 (by decide), hx.2.1, hx.2.2]; exact h8
/-- only the state 'now' has changed -/
def xnow (σ σ' : nc_S) : Prop := (∀ k, 84 ≤ k → σ'.1 k = σ.1 k ∧ σ'.2 k = σ.2 k) ∧ σ'.1 0 = σ.1 0 ∧ σ'.1 1 = σ.1 1
def mnow (μ μ' : nc_S) : Prop := μ'.1 0 = μ.1 0 ∧ μ'.1 2 = μ.1 2 ∧ μ'.1 5 = μ.1 5 ∧ μ'.1 6 = μ.1 6 ∧ μ'.2 4 = μ.2 4
theorem xnow.B {V : nc_V} {σ σ' : nc_S} (h : xnow σ σ') (hB : xB V σ 84) : xB V σ' 84 := by
  obtain ⟨h0, h1, h2, h3, h4, h5, h6⟩ := hB
  refine ⟨fun j hj => ?_, fun p hp => ?_, fun k hk => ?_, fun k hk j hj => ?_, fun k hk j hj => ?_, fun k hk j hj => ?_, fun k hk => ?_⟩
  · rw [(h.1 _ (by omega)).1]; exact h0 j hj
  · rw [(h.1 (84 + 2) (by omega)).1, (h.1 (84 + 3) (by omega)).1, (h.1 (84 + 4) (by omega)).1]; exact h1 p hp
  · rw [(h.1 _ (by omega)).1]; exact h2 k hk
  · rw [(h.1 _ (by omega)).1]; exact h3 k hk j hj
  · rw [(h.1 _ (by omega)).1]; exact h4 k hk j hj
  · rw [(h.1 _ (by omega)).1]; exact h5 k hk j hj
  · rw [(h.1 _ (by omega)).2]; exact h6 k hk
theorem Rel.now {tt ti : Nat → Option nc_text} {σ σ' μ μ' : nc_S} {V V' V1 : nc_V} (h2 : v_ok V') (h4 : xB V' σ 84) (h6 : mB V' (μ.1 2) (μ.2 4)) (h7 : r_txt tt ti V V' (μ.1 5)) (h8 : r_tape σ μ) (hx : xnow σ σ') (hm : mnow μ μ') (hV : v_ok V1) (h03 : V1 0 3 = V 0 3) (hX : xB V1 σ' 11) (hM : mB V1 (μ'.1 1) (μ'.2 3)) : Rel tt ti σ' μ' := by
  refine ⟨V1, V', hV, h2, hX, hx.B h4, hM, ?_, ?_, ?_⟩
  · rw [hm.2.1, hm.2.2.2.2]; exact h6
  · unfold r_txt; rw [hm.2.2.1, h03]; exact h7
  · unfold r_tape; rw [hm.1, hm.2.2.2.1, hx.2.1, hx.2.2]; exact h8
theorem xnow.I {σ : nc_S} {k j : Nat} {v : Int32} (h : 11 ≤ k) (h2 : k < 84) : xnow σ (nc_I σ k j v) := ⟨fun i hi => ⟨if_neg (by omega), rfl⟩, if_neg (by omega), if_neg (by omega)⟩
theorem xnow.L {σ : nc_S} {k j : Nat} {v : Int64} (h2 : k < 84) : xnow σ (nc_L σ k j v) := ⟨fun i hi => ⟨rfl, if_neg (by omega)⟩, rfl, rfl⟩
theorem xnow.tr {a b c : nc_S} (h : xnow a b) (g : xnow b c) : xnow a c := ⟨fun k hk => ⟨(g.1 k hk).1.trans (h.1 k hk).1, (g.1 k hk).2.trans (h.1 k hk).2⟩, g.2.1.trans h.2.1, g.2.2.trans h.2.2⟩
theorem mnow.I {μ : nc_S} {j : Nat} {v : Int32} : mnow μ (nc_I μ 1 j v) := ⟨rfl, rfl, rfl, rfl, rfl⟩
theorem mnow.L {μ : nc_S} {j : Nat} {v : Int64} : mnow μ (nc_L μ 3 j v) := ⟨rfl, rfl, rfl, rfl, rfl⟩
theorem mnow.tr {a b c : nc_S} (h : mnow a b) (g : mnow b c) : mnow a c := ⟨g.1.trans h.1, g.2.1.trans h.2.1, g.2.2.1.trans h.2.2.1, g.2.2.2.1.trans h.2.2.2.1, g.2.2.2.2.trans h.2.2.2.2⟩
/-- the answer of both: an operation of the class and one of the reference -/
def Same (tt ti : Nat → Option nc_text) (a : (Int32 → nc_S → Prop) → Prop) (b : (Int32 → nc_S → Prop) → Prop) : Prop := a (fun r σ' => b (fun r' μ' => r = r' ∧ Rel tt ti σ' μ'))
section OPS
variable {tt ti : Nat → Option nc_text} {σ μ : nc_S} {V : nc_V} {Q : Int32 → nc_S → Prop} {z z2 z3 : Int}
theorem sX0_isNumber (h1 : -2147483648 ≤ z) (h2 : z < 2147483648) (h : Q (if 1 ≤ z ∧ z ≤ 9999 then 1 else 0) σ) : wX0_isNumber tt (iI z) σ Q := by
  unfold wX0_isNumber
  apply sX0_in
  refine ⟨nc_ifz, ?_⟩
  have e : ((1 : Int64) ≤ (iI z).toInt64 ∧ (iI z).toInt64 ≤ (9999 : Int64)) ↔ (1 ≤ z ∧ z ≤ 9999) := by
    simp (disch := omega) only [iI_lit, lI_lit, iI_neg, lI_neg, iI_add, iI_sub, iI_mul, lI_add, lI_sub, lI_mul, lI_i, iI_lt, iI_le, iI_eq, lI_lt, lI_le, lI_eq, iI_in, iI_nat, iI_l, nc_I_s, nc_I_n, nc_I_2, nc_L_s, nc_L_n, nc_L_1, nc_F_s, nc_F_n, nc_F_2]
  simp only [e]
  exact h
theorem sX0_isFirst (h1 : -2147483648 ≤ z) (h2 : z < 2147483648) (h : Q (if 0 ≤ z ∧ z ≤ 9999 then 1 else 0) σ) : wX0_isFirst tt (iI z) σ Q := by
  unfold wX0_isFirst
  apply sX0_in
  refine ⟨nc_ifz, ?_⟩
  have e : ((0 : Int64) ≤ (iI z).toInt64 ∧ (iI z).toInt64 ≤ (9999 : Int64)) ↔ (0 ≤ z ∧ z ≤ 9999) := by
    simp (disch := omega) only [iI_lit, lI_lit, iI_neg, lI_neg, iI_add, iI_sub, iI_mul, lI_add, lI_sub, lI_mul, lI_i, iI_lt, iI_le, iI_eq, lI_lt, lI_le, lI_eq, iI_in, iI_nat, iI_l, nc_I_s, nc_I_n, nc_I_2, nc_L_s, nc_L_n, nc_L_1, nc_F_s, nc_F_n, nc_F_2]
  simp only [e]
  exact h
theorem sX2_isCaller (h1 : -2147483648 ≤ z) (h2 : z < 2147483648) (h3 : -2147483648 ≤ z2) (h4 : z2 < 2147483648) (h : Q (if (1 ≤ z ∧ z ≤ 9999) ∧ 0 ≤ z2 ∧ z2 ≤ 9999 then 1 else 0) μ) : wX2_isCaller (iI z) (iI z2) μ Q := by
  unfold wX2_isCaller
  apply sX2_isIn
  have e : ((1 : Int32) ≤ iI z ∧ iI z ≤ (9999 : Int32)) ↔ (1 ≤ z ∧ z ≤ 9999) := by
    simp (disch := omega) only [iI_lit, lI_lit, iI_neg, lI_neg, iI_add, iI_sub, iI_mul, lI_add, lI_sub, lI_mul, lI_i, iI_lt, iI_le, iI_eq, lI_lt, lI_le, lI_eq, iI_in, iI_nat, iI_l, nc_I_s, nc_I_n, nc_I_2, nc_L_s, nc_L_n, nc_L_1, nc_F_s, nc_F_n, nc_F_2]
  have e2 : ((0 : Int32) ≤ iI z2 ∧ iI z2 ≤ (9999 : Int32)) ↔ (0 ≤ z2 ∧ z2 ≤ 9999) := by
    simp (disch := omega) only [iI_lit, lI_lit, iI_neg, lI_neg, iI_add, iI_sub, iI_mul, lI_add, lI_sub, lI_mul, lI_i, iI_lt, iI_le, iI_eq, lI_lt, lI_le, lI_eq, iI_in, iI_nat, iI_l, nc_I_s, nc_I_n, nc_I_2, nc_L_s, nc_L_n, nc_L_1, nc_F_s, nc_F_n, nc_F_2]
  simp only [e, nc_if0]
  refine ⟨fun c => ?_, fun c => ?_⟩
  · rw [if_neg (fun q => c q.1)] at h; exact h
  · apply sX2_isIn
    simp only [e2, nc_if0]
    have c := Decidable.not_not.mp c
    refine ⟨fun c2 => ?_, fun c2 => ?_⟩
    · rw [if_neg (fun q => c2 q.2)] at h; exact h
    · rw [if_pos ⟨c, Decidable.not_not.mp c2⟩] at h; exact h
def v_person (V : nc_V) (n : Nat) (z w : Int) : nc_V := v_set (v_set (v_set (v_set V 1 n z) 2 n w) 3 n 0) 0 0 (n + 1)
theorem v_ok_person {n : Nat} {w : Int} (hV : v_ok V) (hn : V 0 0 = n) (h : n < 12) (a1 : 1 ≤ z) (a2 : z ≤ 9999) (b1 : 0 ≤ w) (b2 : w ≤ 9999) : v_ok (v_person V n z w) := by
  obtain ⟨h0, h1, h2, h3, h4, h5, h6, h7, h8, h9, h10, h11, h12, h13⟩ := hV
  unfold v_person v_ok
  simp (config := {decide := true}) only [v_set, if_true, if_false, true_and, false_and, and_true]
  refine ⟨by omega, h1, h2, h3, h4, h5, h6, h7, h8, fun p hp => ?_, h10, fun k hk => ?_, h12, fun k hk => ?_⟩
  · by_cases e : p = n
    · simp only [e, if_true]; omega
    · simp only [e, if_false]; exact h9 p (by omega)
  · have := h11 k hk; omega
  · have := h13 k hk; omega
theorem xB_person {n : Nat} {w : Int} {v : Int32} (hv : v = iI (n + 1)) (hX : xB V σ 11) (hn : V 0 0 = n) (h : n < 12) : xB (v_person V n z w) (nc_I (nc_I (nc_I (nc_I σ 13 n (iI z)) 14 n (iI w)) 15 n 0) 12 0 v) 11 := by
  subst hv
  obtain ⟨h0, h1, h2, h3, h4, h5, h6⟩ := hX
  unfold v_person xB
  simp (config := {decide := true}) (disch := omega) only [nc_I_s, nc_I_n, nc_I_2, nc_L_s, nc_L_n, nc_L_1, nc_F_s, nc_F_n, nc_F_2, v_set, if_true, if_false, true_and, false_and, and_true]
  refine ⟨fun j hj => ?_, fun p hp => ?_, h2, h3, h4, h5, h6⟩
  · by_cases e : j = 0
    · simp only [e, if_true]
    · simp only [e, if_false]; exact h0 j hj
  · by_cases e : p = n
    · simp only [e, if_true]; exact ⟨trivial, trivial, rfl⟩
    · simp only [e, if_false]; exact h1 p (by omega)
theorem mB_person {n : Nat} {w : Int} {v : Int32} (hv : v = iI (n + 1)) (hX : mB V (μ.1 1) (μ.2 3)) (hn : V 0 0 = n) (h : n < 12) : mB (v_person V n z w) ((nc_I (nc_I (nc_I μ 1 (10 + 2 * n) (iI z)) 1 (11 + 2 * n) (iI w)) 1 0 v).1 1) (μ.2 3) := by
  subst hv
  obtain ⟨h0, h1, h2, h3, h4, h5, h6, h7⟩ := hX
  unfold v_person mB
  simp (config := {decide := true}) (disch := omega) only [nc_I_s, nc_I_n, nc_I_2, nc_L_s, nc_L_n, nc_L_1, nc_F_s, nc_F_n, nc_F_2, v_set, if_true, if_false, true_and, false_and, and_true]
  refine ⟨fun j hj => ?_, fun p hp => ?_, fun p hp => ?_, fun k hk => ?_, fun k hk j hj => ?_, fun k hk j hj => ?_, fun k hk j hj => ?_, h7⟩
  · by_cases e : j = 0
    · simp only [e, if_true]
    · simp (disch := omega) only [if_neg]; exact h0 j hj
  · by_cases e : p = n
    · simp (disch := omega) only [if_neg, e, if_true, true_and]
    · simp (disch := omega) only [if_neg]; exact h1 p (by omega)
  · simp (disch := omega) only [if_neg]; rw [h2 p hp]
    by_cases e : p = n
    · simp (disch := omega) only [if_neg, if_pos, e]; rfl
    · congr 1; simp only [e, if_false]
      by_cases e2 : (p : Int) < V 0 0
      · rw [if_pos e2, if_pos (by omega)]
      · rw [if_neg e2, if_neg (by omega)]
  · simp (disch := omega) only [if_neg]; exact h3 k hk
  · simp (disch := omega) only [if_neg]; exact h4 k hk j hj
  · simp (disch := omega) only [if_neg]; exact h5 k hk j hj
  · simp (disch := omega) only [if_neg]; exact h6 k hk j hj
theorem op_person (hR : Rel tt ti σ μ) (p1 p2 : Int32) : Same tt ti (wX0_person tt p1 p2 σ) (wX2_person p1 p2 μ) := by
  obtain ⟨V, V', hV, hV', hX, hX', hM, hM', hT, hP⟩ := id hR
  obtain ⟨z, hz1, hz2, rfl⟩ := iI_ex p1
  obtain ⟨w, hw1, hw2, rfl⟩ := iI_ex p2
  obtain ⟨hN, -⟩ := id hV
  have m0 : μ.1 1 0 = iI (V 0 0) := hM.1 0 (by decide)
  have x0 : σ.1 12 0 = iI (V 0 0) := hX.1 0 (by decide)
  have no : ∀ (c : ¬ ((1 ≤ z ∧ z ≤ 9999) ∧ 0 ≤ w ∧ w ≤ 9999 ∧ V 0 0 < 12)), wX2_person (iI z) (iI w) μ (fun r' μ' => -1 = r' ∧ Rel tt ti σ μ') := by
    intro c
    unfold wX2_person
    apply sX2_isCaller hz1 hz2 hw1 hw2
    simp only [nc_if0]
    refine ⟨fun _ => ⟨trivial, hR⟩, fun c1 => ⟨fun _ => ⟨trivial, hR⟩, fun c2 => ?_⟩⟩
    exfalso
    rw [m0] at c2
    revert c2
    simp (disch := omega) only [iI_lit, lI_lit, iI_neg, lI_neg, iI_add, iI_sub, iI_mul, lI_add, lI_sub, lI_mul, lI_i, iI_lt, iI_le, iI_eq, lI_lt, lI_le, lI_eq, iI_in, iI_nat, iI_l, nc_I_s, nc_I_n, nc_I_2, nc_L_s, nc_L_n, nc_L_1, nc_F_s, nc_F_n, nc_F_2]
    omega
  unfold Same wX0_person
  apply sX0_isNumber hz1 hz2
  simp only [nc_if0]
  refine ⟨fun c => no (fun q => c q.1), fun c => ?_⟩
  apply sX0_isFirst hw1 hw2
  simp only [nc_if0]
  refine ⟨fun c2 => no (fun q => c2 ⟨q.2.1, q.2.2.1⟩), fun c2 => ?_⟩
  rw [x0]
  refine ⟨fun c3 => no (fun q => ?_), fun c3 => ?_⟩
  · revert c3
    simp (disch := omega) only [iI_lit, lI_lit, iI_neg, lI_neg, iI_add, iI_sub, iI_mul, lI_add, lI_sub, lI_mul, lI_i, iI_lt, iI_le, iI_eq, lI_lt, lI_le, lI_eq, iI_in, iI_nat, iI_l, nc_I_s, nc_I_n, nc_I_2, nc_L_s, nc_L_n, nc_L_1, nc_F_s, nc_F_n, nc_F_2]
    omega
  have hn : V 0 0 < 12 := by
    revert c3
    simp (disch := omega) only [iI_lit, lI_lit, iI_neg, lI_neg, iI_add, iI_sub, iI_mul, lI_add, lI_sub, lI_mul, lI_i, iI_lt, iI_le, iI_eq, lI_lt, lI_le, lI_eq, iI_in, iI_nat, iI_l, nc_I_s, nc_I_n, nc_I_2, nc_L_s, nc_L_n, nc_L_1, nc_F_s, nc_F_n, nc_F_2]
    omega
  obtain ⟨n, hn0⟩ : ∃ n : Nat, V 0 0 = n := ⟨(V 0 0).toNat, by omega⟩
  intro v8 e8
  subst e8
  rw [hn0] at hn ⊢
  simp (disch := omega) only [iI_in, iI_nat, Int.toNat_natCast]
  refine ⟨by omega, ?_⟩
  intro s1 e1
  refine ⟨by omega, ?_⟩
  intro s2 e2
  refine ⟨by omega, ?_⟩
  intro s3 e3 s4 e4
  have hx : xnow σ s4 := by
    subst e1; subst e2; subst e3; subst e4
    exact (((xnow.I (by decide) (by decide)).tr (xnow.I (by decide) (by decide))).tr (xnow.I (by decide) (by decide))).tr (xnow.I (by decide) (by decide))
  unfold wX2_person
  apply sX2_isCaller hz1 hz2 hw1 hw2
  have c := Decidable.not_not.mp c
  have c2 := Decidable.not_not.mp c2
  simp only [nc_if0]
  refine ⟨fun q => absurd ⟨c, c2⟩ q, fun _ => ?_⟩
  rw [m0, hn0]
  refine ⟨fun q => ?_, fun _ => ?_⟩
  · exfalso
    revert q
    simp (disch := omega) only [iI_lit, lI_lit, iI_neg, lI_neg, iI_add, iI_sub, iI_mul, lI_add, lI_sub, lI_mul, lI_i, iI_lt, iI_le, iI_eq, lI_lt, lI_le, lI_eq, iI_in, iI_nat, iI_l, nc_I_s, nc_I_n, nc_I_2, nc_L_s, nc_L_n, nc_L_1, nc_F_s, nc_F_n, nc_F_2]
    omega
  refine ⟨?_, ?_⟩
  · simp (disch := omega) only [iI_lit, lI_lit, iI_neg, lI_neg, iI_add, iI_sub, iI_mul, lI_add, lI_sub, lI_mul, lI_i, iI_lt, iI_le, iI_eq, lI_lt, lI_le, lI_eq, iI_in, iI_nat, iI_l, nc_I_s, nc_I_n, nc_I_2, nc_L_s, nc_L_n, nc_L_1, nc_F_s, nc_F_n, nc_F_2]
    omega
  intro t1 f1
  have f1 : t1 = nc_I μ 1 (10 + 2 * n) (iI z) := by
    rw [f1]
    congr 1
    simp (disch := omega) only [iI_lit, lI_lit, iI_neg, lI_neg, iI_add, iI_sub, iI_mul, lI_add, lI_sub, lI_mul, lI_i, iI_lt, iI_le, iI_eq, lI_lt, lI_le, lI_eq, iI_in, iI_nat, iI_l, nc_I_s, nc_I_n, nc_I_2, nc_L_s, nc_L_n, nc_L_1, nc_F_s, nc_F_n, nc_F_2]
    omega
  have t10 : t1.1 1 0 = iI n := by
    rw [f1, nc_I_s, if_neg (by omega), m0, hn0]
  rw [t10]
  refine ⟨?_, ?_⟩
  · simp (disch := omega) only [iI_lit, lI_lit, iI_neg, lI_neg, iI_add, iI_sub, iI_mul, lI_add, lI_sub, lI_mul, lI_i, iI_lt, iI_le, iI_eq, lI_lt, lI_le, lI_eq, iI_in, iI_nat, iI_l, nc_I_s, nc_I_n, nc_I_2, nc_L_s, nc_L_n, nc_L_1, nc_F_s, nc_F_n, nc_F_2]
    omega
  intro t2 f2
  have f2 : t2 = nc_I t1 1 (11 + 2 * n) (iI w) := by
    rw [f2]
    congr 1
    simp (disch := omega) only [iI_lit, lI_lit, iI_neg, lI_neg, iI_add, iI_sub, iI_mul, lI_add, lI_sub, lI_mul, lI_i, iI_lt, iI_le, iI_eq, lI_lt, lI_le, lI_eq, iI_in, iI_nat, iI_l, nc_I_s, nc_I_n, nc_I_2, nc_L_s, nc_L_n, nc_L_1, nc_F_s, nc_F_n, nc_F_2]
    omega
  have t20 : t2.1 1 0 = iI n := by
    rw [f2, nc_I_s, if_neg (by omega), t10]
  rw [t20]
  intro t3 f3
  have t30 : t3.1 1 0 = iI ((n + 1 : Nat) : Int) := by
    rw [f3, nc_I_s, if_pos rfl]
    simp (disch := omega) only [iI_lit, lI_lit, iI_neg, lI_neg, iI_add, iI_sub, iI_mul, lI_add, lI_sub, lI_mul, lI_i, iI_lt, iI_le, iI_eq, lI_lt, lI_le, lI_eq, iI_in, iI_nat, iI_l, nc_I_s, nc_I_n, nc_I_2, nc_L_s, nc_L_n, nc_L_1, nc_F_s, nc_F_n, nc_F_2]
    rfl
  have hm : mnow μ t3 := by
    subst f1; subst f2; subst f3
    exact (mnow.I.tr mnow.I).tr mnow.I
  refine ⟨?_, Rel.now (V := V) (V1 := v_person V n z w) hV' hX' hM' hT hP hx hm ?_ ?_ ?_ ?_⟩
  · rw [t30]
    simp (disch := omega) only [iI_lit, lI_lit, iI_neg, lI_neg, iI_add, iI_sub, iI_mul, lI_add, lI_sub, lI_mul, lI_i, iI_lt, iI_le, iI_eq, lI_lt, lI_le, lI_eq, iI_in, iI_nat, iI_l, nc_I_s, nc_I_n, nc_I_2, nc_L_s, nc_L_n, nc_L_1, nc_F_s, nc_F_n, nc_F_2]
    congr 1
    omega
  · exact v_ok_person hV hn0 (by omega) c.1 c.2 c2.1 c2.2
  · rfl
  · subst e1; subst e2; subst e3; subst e4
    refine xB_person ?_ hX hn0 (by omega)
    simp (config := {decide := true}) (disch := omega) only [nc_I_s, nc_I_n, nc_I_2, nc_L_s, nc_L_n, nc_L_1, nc_F_s, nc_F_n, nc_F_2, x0, hn0, if_false, iI_lit, lI_lit, iI_neg, lI_neg, iI_add, iI_sub, iI_mul, lI_add, lI_sub, lI_mul, lI_i]
  · subst f1; subst f2; subst f3
    refine mB_person ?_ hM hn0 (by omega)
    simp (disch := omega) only [nc_I_s, nc_I_n, nc_I_2, nc_L_s, nc_L_n, nc_L_1, nc_F_s, nc_F_n, nc_F_2, m0, hn0, if_neg, iI_lit, lI_lit, iI_neg, lI_neg, iI_add, iI_sub, iI_mul, lI_add, lI_sub, lI_mul, lI_i]
end OPS
