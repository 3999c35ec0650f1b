/-! TEXTS: a clause is (sort, a, b, code); sorts as the reference has them (1 bars, 2 worth, 3 person, 4 near); code: steps (o, v), behind what they work on -/
set_option maxRecDepth 100000
abbrev nc_code : Type := List (Nat × Nat)
abbrev nc_text : Type := List (Nat × Nat × Nat × nc_code)
def nc_cl64 (x : Int64) : Int64 := if (if x < (1000000 : Int64) then x else 1000000) < (-1000000 : Int64) then -1000000 else (if x < (1000000 : Int64) then x else 1000000)
def nc_op2 (o : Nat) (a b : Int64) : Int64 := nc_cl64 (if o = 3 then a + b else if o = 4 then a - b else if o = 5 then a * b else if b = 0 then 0 else if o = 6 then a / b else nc_lrem a b)
def nc_cmp (o : Nat) (a b : Int64) : Bool := if o = 10 then decide (a - b < 0) else if o = 11 then decide (a - b ≤ 0) else if o = 12 then decide (0 < a - b) else if o = 13 then decide (0 ≤ a - b) else if o = 14 then decide (a - b = 0) else !decide (a - b = 0)
/-- one step upon what waits: numbers and truths -/
def nc_step (v : Nat → Int32) (s : List Int64 × List Bool) (w : Nat × Nat) : List Int64 × List Bool :=
  if w.1 = 0 then (Int64.ofNat w.2 :: s.1, s.2)
  else if w.1 = 1 then ((v w.2).toInt64 :: s.1, s.2)
  else if w.1 = 2 then (-(s.1.headD 0) :: s.1.tail, s.2)
  else if w.1 < 10 then (nc_op2 w.1 (s.1.tail.headD 0) (s.1.headD 0) :: s.1.tail.tail, s.2)
  else if w.1 < 20 then (s.1.tail.tail, nc_cmp w.1 (s.1.tail.headD 0) (s.1.headD 0) :: s.2)
  else if w.1 = 20 then (s.1, (!(s.2.headD false)) :: s.2.tail)
  else if w.1 = 21 then (s.1, (s.2.tail.headD false && s.2.headD false) :: s.2.tail.tail)
  else (s.1, (s.2.tail.headD false || s.2.headD false) :: s.2.tail.tail)
def nc_run (v : Nat → Int32) (c : nc_code) (s : List Int64 × List Bool) : List Int64 × List Bool := c.foldl (nc_step v) s
def nc_num (v : Nat → Int32) (c : nc_code) : Int64 := (nc_run v c ([], [])).1.headD 0
def nc_tru (v : Nat → Int32) (c : nc_code) : Bool := (nc_run v c ([], [])).2.headD false
/-- whether one of a text's bars is so -/
def nc_bars (t : nc_text) (v : Nat → Int32) : Bool := t.any (fun q => q.1 == 1 && nc_tru v q.2.2.2)
/-- what it says of worth -/
def nc_worth (t : nc_text) : Option nc_code := (t.find? (fun q => q.1 == 2)).map (fun q => q.2.2.2)
def nc_b (b : Bool) : Int32 := if b then 1 else 0
/-! TREES: what the cells of a text say. dd: numbers of array classes (6: Object[]), and from 100 on the boxes of -128 .. 127 -/
abbrev nc_dd : Type := Nat → ClassId
def t_has (T : va_W) (a : Nat) (e : va_E) : Prop := ∃ k : Nat, T[k]? = some (a, e)
/-- a list of the JDK at a, of the elements els -/
def t_list (dd : nc_dd) (T : va_W) (a : Nat) (els : List Nat) : Prop := ∃ (mc : Int32) (ed : Nat), t_has T a (.inr (14, [.int mc, .ref ed, .int (nI els.length)])) ∧ els.length < 2 ^ 30 ∧ (els ≠ [] → ∃ (cap : Nat) (f : Nat → Option Nat), t_has T ed (.inl (dd 6, cap, .inr (.inr (.inr (.inr f))))) ∧ els.length ≤ cap ∧ cap < 2 ^ 31 ∧ ∀ (i : Nat) (y : Nat), els[i]? = some y → f i = some y)
/-- signs of a chain's steps, of a compare's -/
def t_sgn (o : Nat) : Nat := if o = 3 then 43 else if o = 4 then 45 else if o = 5 then 42 else if o = 6 then 47 else 37
def t_csg (o : Nat) : Nat := if o = 10 then 60 else if o = 11 then 303 else if o = 12 then 62 else if o = 13 then 304 else if o = 14 then 61 else 35
/-- the box of a small number -/
def t_box (dd : nc_dd) (v : Nat) : Nat := dd (100 + (v + 128))
def t_sum (dd : nc_dd) (T : va_W) : Nat → Nat → nc_code → Prop
  | 0, _, _ => False
  | d + 1, a, c => (∃ n : Nat, n ≤ 9999 ∧ t_has T a (.inr (8, [.int (nI n)])) ∧ c = [(0, n)])
    ∨ (∃ w : Nat, w < 7 ∧ t_has T a (.inr (9, [.int (nI w)])) ∧ c = [(1, w)])
    ∨ (∃ (b : Nat) (c' : nc_code), t_has T a (.inr (10, [.ref b])) ∧ t_sum dd T d b c' ∧ c = c' ++ [(2, 0)])
    ∨ (∃ (fst mo si : Nat) (c0 : nc_code) (rs : List (Nat × Nat × nc_code)), t_has T a (.inr (7, [.ref fst, .ref mo, .ref si])) ∧ t_sum dd T d fst c0 ∧ t_list dd T mo (rs.map fun r => r.1) ∧ t_list dd T si (rs.map fun r => t_box dd (t_sgn r.2.1)) ∧ (∀ r ∈ rs, 3 ≤ r.2.1 ∧ r.2.1 ≤ 7 ∧ t_sum dd T d r.1 r.2.2) ∧ c = c0 ++ rs.flatMap fun r => r.2.2 ++ [(r.2.1, 0)])
/-- codes of a row of asks, by and or by or -/
def t_row (w : Bool) : List nc_code → nc_code
  | [] => []
  | c :: cs => c ++ cs.flatMap fun x => x ++ [(if w then 21 else 22, 0)]
def t_ask (dd : nc_dd) (T : va_W) : Nat → Nat → nc_code → Prop
  | 0, _, _ => False
  | d + 1, a, c => (∃ (o x y : Nat) (cx cy : nc_code), 10 ≤ o ∧ o ≤ 15 ∧ t_has T a (.inr (11, [.int (nI (t_csg o)), .ref x, .ref y])) ∧ t_sum dd T d x cx ∧ t_sum dd T d y cy ∧ c = cx ++ cy ++ [(o, 0)])
    ∨ (∃ (b : Nat) (c' : nc_code), t_has T a (.inr (6, [.ref b])) ∧ t_ask dd T d b c' ∧ c = c' ++ [(20, 0)])
    ∨ (∃ (w : Bool) (li : Nat) (rs : List (Nat × nc_code)), t_has T a (.inr (12, [.int (nc_b w), .ref li])) ∧ t_list dd T li (rs.map fun r => r.1) ∧ rs ≠ [] ∧ (∀ r ∈ rs, t_ask dd T d r.1 r.2) ∧ c = t_row w (rs.map fun r => r.2))
/-- the bars of a text, its roll (whether one of the people; two numbers; which clause) -/
def nc_barsOf (t : nc_text) : List nc_code := t.filterMap fun q => if q.1 == 1 then some q.2.2.2 else none
def nc_roll (t : nc_text) : List (Bool × Nat × Nat × Nat) := t.zipIdx.filterMap fun q => if 3 ≤ q.1.1 then some (q.1.1 == 3, q.1.2.1, q.1.2.2.1, q.2) else none
/-- how deep texts are -/
def t_deep : Nat := 40
def t_text (dd : nc_dd) (T : va_W) (a : Nat) (t : nc_text) : Prop :=
  ∃ (ro ba : Nat) (wo : Option Nat) (cl : Int32), t_has T a (.inr (4, [.ref ro, .ref ba, va_rf wo, .int cl]))
    ∧ (∃ els : List (Nat × nc_code), t_list dd T ba (els.map fun q => q.1) ∧ (els.map fun q => q.2) = nc_barsOf t ∧ ∀ q ∈ els, t_ask dd T t_deep q.1 q.2)
    ∧ (match nc_worth t with
      | none => wo = none
      | some c => ∃ b : Nat, wo = some b ∧ t_sum dd T t_deep b c)
    ∧ (∃ els : List (Nat × Bool × Nat × Nat × Nat), t_list dd T ro (els.map fun q => q.1) ∧ (els.map fun q => q.2) = nc_roll t ∧ ∀ q ∈ els, t_has T q.1 (.inr (13, [.int (nc_b q.2.1), .int (nI q.2.2.1), .int (nI q.2.2.2.1), .int (nI q.2.2.2.2)])))
theorem nc_bars_eq (t : nc_text) (v : Nat → Int32) : nc_bars t v = (nc_barsOf t).any (nc_tru v) := by
  unfold nc_bars nc_barsOf
  induction t with
  | nil => rfl
  | cons q t ih =>
    rw [List.any_cons, ih]
    by_cases h : q.1 = 1
    · rw [List.filterMap_cons_some (b := q.2.2.2) (by simp [h]), List.any_cons, show (q.1 == 1) = true by simp [h], Bool.true_and]
    · rw [List.filterMap_cons_none (by simp [h]), show (q.1 == 1) = false by simp [h], Bool.false_and, Bool.false_or]
theorem nc_run_app (v : Nat → Int32) (a b : nc_code) (s : List Int64 × List Bool) : nc_run v (a ++ b) s = nc_run v b (nc_run v a s) := by
  unfold nc_run
  rw [List.foldl_append]
