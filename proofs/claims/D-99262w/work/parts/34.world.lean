/-! THE COMPONENT'S WORLD: cells 48 .. 112 over a background h -/
set_option maxRecDepth 100000
/-- SpoonCourt's fields: which court (none: not told), its numbers F (5 seed 6 forced 9 length 14 rules 20 drawn) -/
def sw_ob (cu : Option Nat) (F : Nat → Int32) : List Value := [va_rf cu, .ref 49, .ref 62, .ref 75, .ref 88, .int (F 5), .int (F 6), .ref 101, .ref 102, .int (F 9), .ref 103, .ref 104, .ref 105, .ref 106, .int (F 14), .ref 107, .ref 108, .ref 109, .ref 110, .ref 111, .int (F 20), .ref 112]
/-- the words of the lines, of the clauses, of the values: the strings' numbers -/
def sw_lw (k : Nat) : Option Nat := some (5 + k)
def sw_cw (_ : Nat) : Option Nat := some 10
def sw_nw (k : Nat) : Option Nat := if k = 0 then some 6 else some (10 + k)
/-- a fault's cell -/
def sw_ft (T : List Value) (x : Int32 × Int32) : va_E := .inr (2, T ++ [.int x.1, .int x.2])
/-- the rows: tape tp (bytes), R 0 hasOne 1 hasOther 2 hands 4 heldThen, R 3 isFit (booleans) -/
def sw_cell (cu : Option Nat) (F : Nat → Int32) (o p q z : cq_C) (T : List Value) (x : Int32 × Int32) (ru im : Nat → Option Nat) (tp : Nat → Int32) (R : Nat → Nat → Int32) (k : Nat) : va_E :=
  if k < 49 then .inr (0, sw_ob cu F) else if k < 62 then cq_cell 49 o (k - 49) else if k < 75 then cq_cell 62 p (k - 62) else if k < 88 then cq_cell 75 q (k - 75) else if k < 101 then cq_cell 88 z (k - 88)
  else if k = 101 then sw_ft T x else if k = 102 then .inl (1, 400, .inl tp) else if k = 103 then .inl (4, 5, .inr (.inr (.inr (.inr sw_lw)))) else if k = 104 then .inl (4, 1, .inr (.inr (.inr (.inr sw_cw)))) else if k = 105 then .inl (4, 12, .inr (.inr (.inr (.inr sw_nw))))
  else if k = 106 then .inl (5, 6, .inr (.inr (.inr (.inr ru)))) else if k = 107 then .inl (0, 25, .inl (R 0)) else if k = 108 then .inl (0, 25, .inl (R 1)) else if k = 109 then .inl (0, 66, .inl (R 2)) else if k = 110 then .inl (3, 7, .inl (R 3)) else if k = 111 then .inl (0, 427, .inl (R 4)) else if k = 112 then .inl (7, 4, .inr (.inr (.inr (.inr im)))) else .inr (0, [])
def sw (h : jx_H) (cu : Option Nat) (F : Nat → Int32) (o p q z : cq_C) (T : List Value) (x : Int32 × Int32) (ru im : Nat → Option Nat) (tp : Nat → Int32) (R : Nat → Nat → Int32) : jx_H :=
  (fun k => if 48 ≤ k ∧ k < 113 then sw_cell cu F o p q z T x ru im tp R k else h.1 k, h.2)
section SW
variable {h : jx_H} {cu : Option Nat} {F : Nat → Int32} {o p q z C : cq_C} {T : List Value} {x : Int32 × Int32} {ru im : Nat → Option Nat} {tp : Nat → Int32} {R : Nat → Nat → Int32}
theorem sw_r : (sw h cu F o p q z T x ru im tp R).1 48 = .inr (0, sw_ob cu F) ∧ (sw h cu F o p q z T x ru im tp R).1 101 = sw_ft T x ∧ (sw h cu F o p q z T x ru im tp R).1 102 = .inl (1, 400, .inl tp) ∧ (sw h cu F o p q z T x ru im tp R).1 103 = .inl (4, 5, .inr (.inr (.inr (.inr sw_lw)))) ∧ (sw h cu F o p q z T x ru im tp R).1 104 = .inl (4, 1, .inr (.inr (.inr (.inr sw_cw)))) ∧ (sw h cu F o p q z T x ru im tp R).1 105 = .inl (4, 12, .inr (.inr (.inr (.inr sw_nw)))) ∧
    (sw h cu F o p q z T x ru im tp R).1 106 = .inl (5, 6, .inr (.inr (.inr (.inr ru)))) ∧ (sw h cu F o p q z T x ru im tp R).1 107 = .inl (0, 25, .inl (R 0)) ∧ (sw h cu F o p q z T x ru im tp R).1 108 = .inl (0, 25, .inl (R 1)) ∧ (sw h cu F o p q z T x ru im tp R).1 109 = .inl (0, 66, .inl (R 2)) ∧ (sw h cu F o p q z T x ru im tp R).1 110 = .inl (3, 7, .inl (R 3)) ∧ (sw h cu F o p q z T x ru im tp R).1 111 = .inl (0, 427, .inl (R 4)) ∧ (sw h cu F o p q z T x ru im tp R).1 112 = .inl (7, 4, .inr (.inr (.inr (.inr im)))) :=
  ⟨rfl, rfl, rfl, rfl, rfl, rfl, rfl, rfl, rfl, rfl, rfl, rfl, rfl⟩
theorem sw_f : (sw_ob cu F)[0]? = some (va_rf cu) ∧ (sw_ob cu F)[1]? = some (.ref 49) ∧ (sw_ob cu F)[2]? = some (.ref 62) ∧ (sw_ob cu F)[3]? = some (.ref 75) ∧ (sw_ob cu F)[4]? = some (.ref 88) ∧ (sw_ob cu F)[5]? = some (.int (F 5)) ∧ (sw_ob cu F)[6]? = some (.int (F 6)) ∧ (sw_ob cu F)[7]? = some (.ref 101) ∧ (sw_ob cu F)[8]? = some (.ref 102) ∧ (sw_ob cu F)[9]? = some (.int (F 9)) ∧ (sw_ob cu F)[10]? = some (.ref 103) ∧ (sw_ob cu F)[11]? = some (.ref 104) ∧ (sw_ob cu F)[12]? = some (.ref 105) ∧ (sw_ob cu F)[13]? = some (.ref 106) ∧ (sw_ob cu F)[14]? = some (.int (F 14)) ∧
    (sw_ob cu F)[15]? = some (.ref 107) ∧ (sw_ob cu F)[16]? = some (.ref 108) ∧ (sw_ob cu F)[17]? = some (.ref 109) ∧ (sw_ob cu F)[18]? = some (.ref 110) ∧ (sw_ob cu F)[19]? = some (.ref 111) ∧ (sw_ob cu F)[20]? = some (.int (F 20)) ∧ (sw_ob cu F)[21]? = some (.ref 112) :=
  ⟨rfl, rfl, rfl, rfl, rfl, rfl, rfl, rfl, rfl, rfl, rfl, rfl, rfl, rfl, rfl, rfl, rfl, rfl, rfl, rfl, rfl, rfl⟩
theorem sw_s {v : Int32} : (sw_ob cu F).set 5 (.int v) = sw_ob cu (va_up F 5 v) ∧ (sw_ob cu F).set 6 (.int v) = sw_ob cu (va_up F 6 v) ∧ (sw_ob cu F).set 9 (.int v) = sw_ob cu (va_up F 9 v) ∧ (sw_ob cu F).set 14 (.int v) = sw_ob cu (va_up F 14 v) ∧ (sw_ob cu F).set 20 (.int v) = sw_ob cu (va_up F 20 v) := ⟨rfl, rfl, rfl, rfl, rfl⟩
theorem sw_s0 {v : Option Nat} : (sw_ob cu F).set 0 (va_rf v) = sw_ob v F := rfl
theorem sw_s0n : (sw_ob cu F).set 0 .null = sw_ob none F := rfl
theorem sw_s0r {v : Nat} : (sw_ob cu F).set 0 (.ref v) = sw_ob (some v) F := rfl
theorem sw_sz : (sw h cu F o p q z T x ru im tp R).2 = h.2 := rfl
theorem sw_out {k : Nat} (hk : k < 48 ∨ 113 ≤ k) : (sw h cu F o p q z T x ru im tp R).1 k = h.1 k := by
  simp only [sw]
  rw [if_neg (by omega)]
theorem sw_w {h' : jx_H} {k : Nat} {v : va_E} {cu' : Option Nat} {F' : Nat → Int32} {o' p' q' z' : cq_C} {x' : Int32 × Int32} {ru' im' : Nat → Option Nat} {tp' : Nat → Int32} {R' : Nat → Nat → Int32} (hk : 48 ≤ k ∧ k < 113) (eh : h' = h) (e : ∀ j, 48 ≤ j → j < 113 → sw_cell cu' F' o' p' q' z' T x' ru' im' tp' R' j = if j = k then v else sw_cell cu F o p q z T x ru im tp R j) : jx_put (sw h cu F o p q z T x ru im tp R) k v = sw h' cu' F' o' p' q' z' T x' ru' im' tp' R' := by
  subst eh
  simp only [jx_put, sw]
  congr 1
  funext j
  by_cases r : 48 ≤ j ∧ j < 113
  · rw [if_pos r, if_pos r, e j r.1 r.2]
  · rw [if_neg r, if_neg r, if_neg (by omega)]
theorem sw_wo {cu' : Option Nat} {F' : Nat → Int32} : jx_put (sw h cu F o p q z T x ru im tp R) 48 (.inr (0, sw_ob cu' F')) = sw h cu' F' o p q z T x ru im tp R := by
  refine sw_w (by omega) rfl fun j h1 h2 => ?_
  by_cases r : j = 48
  · subst r; rfl
  · have e1 : (j < 49) = False := eq_false (by omega)
    rw [if_neg r]; simp only [sw_cell, e1, if_false]
theorem sw_wt {t : Nat → Int32} : jx_put (sw h cu F o p q z T x ru im tp R) 102 (.inl (1, 400, .inl t)) = sw h cu F o p q z T x ru im t R := by
  refine sw_w (by omega) rfl fun j h1 h2 => ?_
  by_cases r : j = 102
  · subst r; rfl
  · rw [if_neg r]; simp only [sw_cell, r, if_false]
theorem sw_wx {y : Int32 × Int32} : jx_put (sw h cu F o p q z T x ru im tp R) 101 (sw_ft T y) = sw h cu F o p q z T y ru im tp R := by
  refine sw_w (by omega) rfl fun j h1 h2 => ?_
  by_cases r : j = 101
  · subst r; rfl
  · rw [if_neg r]; simp only [sw_cell, r, if_false]
theorem sw_wru {r : Nat → Option Nat} : jx_put (sw h cu F o p q z T x ru im tp R) 106 (.inl (5, 6, .inr (.inr (.inr (.inr r))))) = sw h cu F o p q z T x r im tp R := by
  refine sw_w (by omega) rfl fun j h1 h2 => ?_
  by_cases r : j = 106
  · subst r; rfl
  · rw [if_neg r]; simp only [sw_cell, r, if_false]
theorem sw_wim {r : Nat → Option Nat} : jx_put (sw h cu F o p q z T x ru im tp R) 112 (.inl (7, 4, .inr (.inr (.inr (.inr r))))) = sw h cu F o p q z T x ru r tp R := by
  refine sw_w (by omega) rfl fun j h1 h2 => ?_
  by_cases r : j = 112
  · subst r; rfl
  · rw [if_neg r]; simp only [sw_cell, r, if_false]
theorem sw_wR {f : Nat → Int32} : jx_put (sw h cu F o p q z T x ru im tp R) 107 (.inl (0, 25, .inl f)) = sw h cu F o p q z T x ru im tp (va_up R 0 f) ∧ jx_put (sw h cu F o p q z T x ru im tp R) 108 (.inl (0, 25, .inl f)) = sw h cu F o p q z T x ru im tp (va_up R 1 f) ∧ jx_put (sw h cu F o p q z T x ru im tp R) 109 (.inl (0, 66, .inl f)) = sw h cu F o p q z T x ru im tp (va_up R 2 f) ∧ jx_put (sw h cu F o p q z T x ru im tp R) 110 (.inl (3, 7, .inl f)) = sw h cu F o p q z T x ru im tp (va_up R 3 f) ∧ jx_put (sw h cu F o p q z T x ru im tp R) 111 (.inl (0, 427, .inl f)) = sw h cu F o p q z T x ru im tp (va_up R 4 f) := by
  refine ⟨?_, ?_, ?_, ?_, ?_⟩
  · refine sw_w (by omega) rfl fun j h1 h2 => ?_
    by_cases r : j = 107
    · subst r; rfl
    · rw [if_neg r]; simp only [sw_cell, r, if_false, va_up, reduceIte, Nat.reduceEqDiff]
  · refine sw_w (by omega) rfl fun j h1 h2 => ?_
    by_cases r : j = 108
    · subst r; rfl
    · rw [if_neg r]; simp only [sw_cell, r, if_false, va_up, reduceIte, Nat.reduceEqDiff]
  · refine sw_w (by omega) rfl fun j h1 h2 => ?_
    by_cases r : j = 109
    · subst r; rfl
    · rw [if_neg r]; simp only [sw_cell, r, if_false, va_up, reduceIte, Nat.reduceEqDiff]
  · refine sw_w (by omega) rfl fun j h1 h2 => ?_
    by_cases r : j = 110
    · subst r; rfl
    · rw [if_neg r]; simp only [sw_cell, r, if_false, va_up, reduceIte, Nat.reduceEqDiff]
  · refine sw_w (by omega) rfl fun j h1 h2 => ?_
    by_cases r : j = 111
    · subst r; rfl
    · rw [if_neg r]; simp only [sw_cell, r, if_false, va_up, reduceIte, Nat.reduceEqDiff]
theorem sw_ext {b : Nat} {o' p' q' z' : cq_C} (hb : 48 ≤ b ∧ b + 13 ≤ 113) (e : ∀ j, 48 ≤ j → j < 113 → sw_cell cu F o' p' q' z' T x ru im tp R j = if b ≤ j ∧ j < b + 13 then cq_cell b C (j - b) else sw_cell cu F o p q z T x ru im tp R j) : cq_put (sw h cu F o p q z T x ru im tp R) b C = sw h cu F o' p' q' z' T x ru im tp R := by
  simp only [cq_put, sw]
  congr 1
  funext j
  by_cases r : 48 ≤ j ∧ j < 113
  · simp only [if_pos r]; rw [e j r.1 r.2]
  · simp only [if_neg r]; rw [if_neg (by omega)]
theorem sw_o : cq_put (sw h cu F o p q z T x ru im tp R) 49 C = sw h cu F C p q z T x ru im tp R := by
  refine sw_ext (by omega) fun j h1 h2 => ?_
  by_cases r : 49 ≤ j ∧ j < 62
  · rw [if_pos r]
    have e49 : (j < 49) = False := eq_false (by omega)
    have e62 : (j < 62) = True := eq_true r.2
    simp only [sw_cell, e49, e62, if_true, if_false]
  · rw [if_neg r]
    by_cases r2 : j < 49
    · simp only [sw_cell, r2, if_true]
    · have e62 : (j < 62) = False := eq_false (by omega)
      simp only [sw_cell, r2, e62, if_false]
theorem sw_p : cq_put (sw h cu F o p q z T x ru im tp R) 62 C = sw h cu F o C q z T x ru im tp R := by
  refine sw_ext (by omega) fun j h1 h2 => ?_
  by_cases r : 62 ≤ j ∧ j < 75
  · rw [if_pos r]
    have e49 : (j < 49) = False := eq_false (by omega)
    have e62 : (j < 62) = False := eq_false (by omega)
    have e75 : (j < 75) = True := eq_true r.2
    simp only [sw_cell, e49, e62, e75, if_true, if_false]
  · rw [if_neg r]
    by_cases r2 : j < 62
    · simp only [sw_cell, r2, if_true]
    · have e75 : (j < 75) = False := eq_false (by omega)
      simp only [sw_cell, r2, e75, if_false]
theorem sw_q : cq_put (sw h cu F o p q z T x ru im tp R) 75 C = sw h cu F o p C z T x ru im tp R := by
  refine sw_ext (by omega) fun j h1 h2 => ?_
  by_cases r : 75 ≤ j ∧ j < 88
  · rw [if_pos r]
    have e49 : (j < 49) = False := eq_false (by omega)
    have e62 : (j < 62) = False := eq_false (by omega)
    have e75 : (j < 75) = False := eq_false (by omega)
    have e88 : (j < 88) = True := eq_true r.2
    simp only [sw_cell, e49, e62, e75, e88, if_true, if_false]
  · rw [if_neg r]
    by_cases r2 : j < 75
    · simp only [sw_cell, r2, if_true]
    · have e88 : (j < 88) = False := eq_false (by omega)
      simp only [sw_cell, r2, e88, if_false]
theorem sw_z : cq_put (sw h cu F o p q z T x ru im tp R) 88 C = sw h cu F o p q C T x ru im tp R := by
  refine sw_ext (by omega) fun j h1 h2 => ?_
  by_cases r : 88 ≤ j ∧ j < 101
  · rw [if_pos r]
    have e49 : (j < 49) = False := eq_false (by omega)
    have e62 : (j < 62) = False := eq_false (by omega)
    have e75 : (j < 75) = False := eq_false (by omega)
    have e88 : (j < 88) = False := eq_false (by omega)
    have e101 : (j < 101) = True := eq_true r.2
    simp only [sw_cell, e49, e62, e75, e88, e101, if_true, if_false]
  · rw [if_neg r]
    by_cases r2 : j < 88
    · simp only [sw_cell, r2, if_true]
    · have e101 : (j < 101) = False := eq_false (by omega)
      simp only [sw_cell, r2, e101, if_false]
end SW
