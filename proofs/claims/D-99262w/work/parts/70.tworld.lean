/-! THE TWIN'S WORLD (printed by tools/tw.py): cells 113 .. 150 over a background h. Its court: numbers s, rows a; E 0 draw 1 in force; numbers N by field; rows Q by field; W 0 asked 1 stack -/
set_option maxRecDepth 100000
def tq_sc (s E : Nat → Int32) (k : Nat) : Int32 := if k = 0 then s 0 else if k = 1 then s 1 else if k = 2 then s 2 else if k = 3 then s 3 else if k = 4 then s 7 else if k = 5 then s 8 else if k = 6 then s 9 else if k = 7 then s 10 else if k = 8 then s 4 else if k = 9 then E 0 else if k = 10 then E 1 else E k
def tq_ev (f : Nat → Int32) (k : Nat) : Int32 := f (2 * k)
def tq_od (f : Nat → Int32) (k : Nat) : Int32 := f (2 * k + 1)
def tq_il (f g : Nat → Int32) (k : Nat) : Int32 := if k % 2 = 0 then f (k / 2) else g (k / 2)
def tw_ob (N : Nat → Int32) : List Value := [.int (N 0), .ref 114, .ref 115, .ref 116, .ref 117, .ref 118, .ref 119, .ref 120, .ref 121, .ref 122, .ref 123, .ref 124, .ref 125, .ref 126, .ref 127, .ref 128, .ref 129, .ref 130, .ref 131, .int (N 19), .int (N 20), .int (N 21), .int (N 22), .int (N 23), .int (N 24), .int (N 25), .int (N 26), .int (N 27), .int (N 28), .ref 132, .ref 133, .ref 134, .ref 135, .ref 136, .ref 137, .ref 138, .ref 139, .ref 140, .ref 141, .ref 142, .ref 143, .int (N 41), .int (N 42), .int (N 43), .ref 144, .ref 145, .ref 146, .ref 147, .ref 148, .ref 149, .ref 150, .int (N 51), .int (N 52)]
def tw_cell (s : Nat → Int32) (a : Nat → Nat → Int32) (E N : Nat → Int32) (Q : Nat → Nat → Int32) (W : Nat → Nat → Int64) (k : Nat) : va_E :=
  if k = 113 then .inr (3, tw_ob N) else if k = 114 then .inl (0, 11, .inl (tq_sc s E)) else if k = 115 then .inl (0, 6, .inl (a 0)) else if k = 116 then .inl (0, 6, .inl (a 2)) else if k = 117 then .inl (0, 6, .inl (a 6)) else if k = 118 then .inl (0, 12, .inl (a 1)) else if k = 119 then .inl (0, 6, .inl (a 7)) else if k = 120 then .inl (0, 6, .inl (a 4)) else if k = 121 then .inl (0, 6, .inl (a 8)) else if k = 122 then .inl (0, 6, .inl (a 9)) else if k = 123 then .inl (0, 10, .inl (tq_ev (a 5))) else if k = 124 then .inl (0, 10, .inl (tq_od (a 5))) else if k = 125 then .inl (0, 6, .inl (a 3)) else if k = 126 then .inl (0, 4, .inl (Q 13)) else if k = 127 then .inl (0, 6, .inl (Q 14)) else if k = 128 then .inl (0, 6, .inl (Q 15)) else if k = 129 then .inl (0, 12, .inl (Q 16)) else if k = 130 then .inl (0, 6, .inl (Q 17)) else if k = 131 then .inl (0, 6, .inl (Q 18)) else if k = 132 then .inl (1, 400, .inl (Q 29)) else if k = 133 then .inl (0, 1800, .inl (Q 30)) else if k = 134 then .inl (0, 1800, .inl (Q 31)) else if k = 135 then .inl (0, 6, .inl (Q 32)) else if k = 136 then .inl (0, 72, .inl (Q 33)) else if k = 137 then .inl (0, 72, .inl (Q 34)) else if k = 138 then .inl (0, 72, .inl (Q 35)) else if k = 139 then .inl (0, 402, .inl (Q 36)) else if k = 140 then .inl (2, 12, .inr (.inl (W 0))) else if k = 141 then .inl (2, 300, .inr (.inl (W 1))) else if k = 142 then .inl (0, 560, .inl (a 10)) else if k = 143 then .inl (0, 1, .inl (Q 40)) else if k = 144 then .inl (0, 6, .inl (Q 44)) else if k = 145 then .inl (0, 25, .inl (Q 45)) else if k = 146 then .inl (0, 25, .inl (Q 46)) else if k = 147 then .inl (0, 66, .inl (Q 47)) else if k = 148 then .inl (0, 427, .inl (Q 48)) else if k = 149 then .inl (0, 3500, .inl (Q 49)) else if k = 150 then .inl (3, 4, .inl (Q 50)) else .inr (0, [])
def tw (h : jx_H) (s : Nat → Int32) (a : Nat → Nat → Int32) (E N : Nat → Int32) (Q : Nat → Nat → Int32) (W : Nat → Nat → Int64) : jx_H := (fun k => if 113 ≤ k ∧ k < 151 then tw_cell s a E N Q W k else h.1 k, h.2)
section TW
variable {h : jx_H} {s s' : Nat → Int32} {a a' : Nat → Nat → Int32} {E N E' N' : Nat → Int32} {Q Q' : Nat → Nat → Int32} {W W' : Nat → Nat → Int64} {f : Nat → Int32} {g : Nat → Int64} {v : Int32} {k : Nat}
theorem tw_r : (tw h s a E N Q W).1 113 = .inr (3, tw_ob N) ∧ (tw h s a E N Q W).1 114 = .inl (0, 11, .inl (tq_sc s E)) ∧ (tw h s a E N Q W).1 115 = .inl (0, 6, .inl (a 0)) ∧ (tw h s a E N Q W).1 116 = .inl (0, 6, .inl (a 2)) ∧ (tw h s a E N Q W).1 117 = .inl (0, 6, .inl (a 6)) ∧ (tw h s a E N Q W).1 118 = .inl (0, 12, .inl (a 1)) ∧ (tw h s a E N Q W).1 119 = .inl (0, 6, .inl (a 7)) ∧ (tw h s a E N Q W).1 120 = .inl (0, 6, .inl (a 4)) ∧ (tw h s a E N Q W).1 121 = .inl (0, 6, .inl (a 8)) ∧ (tw h s a E N Q W).1 122 = .inl (0, 6, .inl (a 9)) ∧ (tw h s a E N Q W).1 123 = .inl (0, 10, .inl (tq_ev (a 5))) ∧ (tw h s a E N Q W).1 124 = .inl (0, 10, .inl (tq_od (a 5))) ∧ (tw h s a E N Q W).1 125 = .inl (0, 6, .inl (a 3)) ∧ (tw h s a E N Q W).1 126 = .inl (0, 4, .inl (Q 13)) ∧ (tw h s a E N Q W).1 127 = .inl (0, 6, .inl (Q 14)) ∧ (tw h s a E N Q W).1 128 = .inl (0, 6, .inl (Q 15)) ∧ (tw h s a E N Q W).1 129 = .inl (0, 12, .inl (Q 16)) ∧ (tw h s a E N Q W).1 130 = .inl (0, 6, .inl (Q 17)) ∧ (tw h s a E N Q W).1 131 = .inl (0, 6, .inl (Q 18)) ∧ (tw h s a E N Q W).1 132 = .inl (1, 400, .inl (Q 29)) ∧ (tw h s a E N Q W).1 133 = .inl (0, 1800, .inl (Q 30)) ∧ (tw h s a E N Q W).1 134 = .inl (0, 1800, .inl (Q 31)) ∧ (tw h s a E N Q W).1 135 = .inl (0, 6, .inl (Q 32)) ∧ (tw h s a E N Q W).1 136 = .inl (0, 72, .inl (Q 33)) ∧ (tw h s a E N Q W).1 137 = .inl (0, 72, .inl (Q 34)) ∧ (tw h s a E N Q W).1 138 = .inl (0, 72, .inl (Q 35)) ∧ (tw h s a E N Q W).1 139 = .inl (0, 402, .inl (Q 36)) ∧ (tw h s a E N Q W).1 140 = .inl (2, 12, .inr (.inl (W 0))) ∧ (tw h s a E N Q W).1 141 = .inl (2, 300, .inr (.inl (W 1))) ∧ (tw h s a E N Q W).1 142 = .inl (0, 560, .inl (a 10)) ∧ (tw h s a E N Q W).1 143 = .inl (0, 1, .inl (Q 40)) ∧ (tw h s a E N Q W).1 144 = .inl (0, 6, .inl (Q 44)) ∧ (tw h s a E N Q W).1 145 = .inl (0, 25, .inl (Q 45)) ∧ (tw h s a E N Q W).1 146 = .inl (0, 25, .inl (Q 46)) ∧ (tw h s a E N Q W).1 147 = .inl (0, 66, .inl (Q 47)) ∧ (tw h s a E N Q W).1 148 = .inl (0, 427, .inl (Q 48)) ∧ (tw h s a E N Q W).1 149 = .inl (0, 3500, .inl (Q 49)) ∧ (tw h s a E N Q W).1 150 = .inl (3, 4, .inl (Q 50)) :=
  ⟨rfl, rfl, rfl, rfl, rfl, rfl, rfl, rfl, rfl, rfl, rfl, rfl, rfl, rfl, rfl, rfl, rfl, rfl, rfl, rfl, rfl, rfl, rfl, rfl, rfl, rfl, rfl, rfl, rfl, rfl, rfl, rfl, rfl, rfl, rfl, rfl, rfl, rfl⟩
theorem tw_f : (tw_ob N)[0]? = some (.int (N 0)) ∧ (tw_ob N)[1]? = some (.ref 114) ∧ (tw_ob N)[2]? = some (.ref 115) ∧ (tw_ob N)[3]? = some (.ref 116) ∧ (tw_ob N)[4]? = some (.ref 117) ∧ (tw_ob N)[5]? = some (.ref 118) ∧ (tw_ob N)[6]? = some (.ref 119) ∧ (tw_ob N)[7]? = some (.ref 120) ∧ (tw_ob N)[8]? = some (.ref 121) ∧ (tw_ob N)[9]? = some (.ref 122) ∧ (tw_ob N)[10]? = some (.ref 123) ∧ (tw_ob N)[11]? = some (.ref 124) ∧ (tw_ob N)[12]? = some (.ref 125) ∧ (tw_ob N)[13]? = some (.ref 126) ∧ (tw_ob N)[14]? = some (.ref 127) ∧ (tw_ob N)[15]? = some (.ref 128) ∧ (tw_ob N)[16]? = some (.ref 129) ∧ (tw_ob N)[17]? = some (.ref 130) ∧ (tw_ob N)[18]? = some (.ref 131) ∧ (tw_ob N)[19]? = some (.int (N 19)) ∧ (tw_ob N)[20]? = some (.int (N 20)) ∧ (tw_ob N)[21]? = some (.int (N 21)) ∧ (tw_ob N)[22]? = some (.int (N 22)) ∧ (tw_ob N)[23]? = some (.int (N 23)) ∧ (tw_ob N)[24]? = some (.int (N 24)) ∧ (tw_ob N)[25]? = some (.int (N 25)) ∧ (tw_ob N)[26]? = some (.int (N 26)) ∧ (tw_ob N)[27]? = some (.int (N 27)) ∧ (tw_ob N)[28]? = some (.int (N 28)) ∧ (tw_ob N)[29]? = some (.ref 132) ∧ (tw_ob N)[30]? = some (.ref 133) ∧ (tw_ob N)[31]? = some (.ref 134) ∧ (tw_ob N)[32]? = some (.ref 135) ∧ (tw_ob N)[33]? = some (.ref 136) ∧ (tw_ob N)[34]? = some (.ref 137) ∧ (tw_ob N)[35]? = some (.ref 138) ∧ (tw_ob N)[36]? = some (.ref 139) ∧ (tw_ob N)[37]? = some (.ref 140) ∧ (tw_ob N)[38]? = some (.ref 141) ∧ (tw_ob N)[39]? = some (.ref 142) ∧ (tw_ob N)[40]? = some (.ref 143) ∧ (tw_ob N)[41]? = some (.int (N 41)) ∧ (tw_ob N)[42]? = some (.int (N 42)) ∧ (tw_ob N)[43]? = some (.int (N 43)) ∧ (tw_ob N)[44]? = some (.ref 144) ∧ (tw_ob N)[45]? = some (.ref 145) ∧ (tw_ob N)[46]? = some (.ref 146) ∧ (tw_ob N)[47]? = some (.ref 147) ∧ (tw_ob N)[48]? = some (.ref 148) ∧ (tw_ob N)[49]? = some (.ref 149) ∧ (tw_ob N)[50]? = some (.ref 150) ∧ (tw_ob N)[51]? = some (.int (N 51)) ∧ (tw_ob N)[52]? = some (.int (N 52)) :=
  ⟨rfl, rfl, rfl, rfl, rfl, rfl, rfl, rfl, rfl, rfl, rfl, rfl, rfl, rfl, rfl, rfl, rfl, rfl, rfl, rfl, rfl, rfl, rfl, rfl, rfl, rfl, rfl, rfl, rfl, rfl, rfl, rfl, rfl, rfl, rfl, rfl, rfl, rfl, rfl, rfl, rfl, rfl, rfl, rfl, rfl, rfl, rfl, rfl, rfl, rfl, rfl, rfl, rfl⟩
theorem tw_s : (tw_ob N).set 0 (.int v) = tw_ob (va_up N 0 v) ∧ (tw_ob N).set 19 (.int v) = tw_ob (va_up N 19 v) ∧ (tw_ob N).set 20 (.int v) = tw_ob (va_up N 20 v) ∧ (tw_ob N).set 21 (.int v) = tw_ob (va_up N 21 v) ∧ (tw_ob N).set 22 (.int v) = tw_ob (va_up N 22 v) ∧ (tw_ob N).set 23 (.int v) = tw_ob (va_up N 23 v) ∧ (tw_ob N).set 24 (.int v) = tw_ob (va_up N 24 v) ∧ (tw_ob N).set 25 (.int v) = tw_ob (va_up N 25 v) ∧ (tw_ob N).set 26 (.int v) = tw_ob (va_up N 26 v) ∧ (tw_ob N).set 27 (.int v) = tw_ob (va_up N 27 v) ∧ (tw_ob N).set 28 (.int v) = tw_ob (va_up N 28 v) ∧ (tw_ob N).set 41 (.int v) = tw_ob (va_up N 41 v) ∧ (tw_ob N).set 42 (.int v) = tw_ob (va_up N 42 v) ∧ (tw_ob N).set 43 (.int v) = tw_ob (va_up N 43 v) ∧ (tw_ob N).set 51 (.int v) = tw_ob (va_up N 51 v) ∧ (tw_ob N).set 52 (.int v) = tw_ob (va_up N 52 v) :=
  ⟨rfl, rfl, rfl, rfl, rfl, rfl, rfl, rfl, rfl, rfl, rfl, rfl, rfl, rfl, rfl, rfl⟩
theorem tq_r : tq_sc s E 0 = s 0 ∧ tq_sc s E 1 = s 1 ∧ tq_sc s E 2 = s 2 ∧ tq_sc s E 3 = s 3 ∧ tq_sc s E 4 = s 7 ∧ tq_sc s E 5 = s 8 ∧ tq_sc s E 6 = s 9 ∧ tq_sc s E 7 = s 10 ∧ tq_sc s E 8 = s 4 ∧ tq_sc s E 9 = E 0 ∧ tq_sc s E 10 = E 1 :=
  ⟨rfl, rfl, rfl, rfl, rfl, rfl, rfl, rfl, rfl, rfl, rfl⟩
theorem tq_w0 : upd (tq_sc s E) 0 v = tq_sc (va_up s 0 v) E := by
  funext k
  simp only [upd, tq_sc, va_up]
  by_cases r11 : k < 11
  · rcases (by omega : k = 0 ∨ k = 1 ∨ k = 2 ∨ k = 3 ∨ k = 4 ∨ k = 5 ∨ k = 6 ∨ k = 7 ∨ k = 8 ∨ k = 9 ∨ k = 10) with q | q | q | q | q | q | q | q | q | q | q <;> subst q <;> rfl
  · simp only [show ¬ k = 0 by omega, show ¬ k = 1 by omega, show ¬ k = 2 by omega, show ¬ k = 3 by omega, show ¬ k = 4 by omega, show ¬ k = 5 by omega, show ¬ k = 6 by omega, show ¬ k = 7 by omega, show ¬ k = 8 by omega, show ¬ k = 9 by omega, show ¬ k = 10 by omega, if_false]
theorem tq_w1 : upd (tq_sc s E) 1 v = tq_sc (va_up s 1 v) E := by
  funext k
  simp only [upd, tq_sc, va_up]
  by_cases r11 : k < 11
  · rcases (by omega : k = 0 ∨ k = 1 ∨ k = 2 ∨ k = 3 ∨ k = 4 ∨ k = 5 ∨ k = 6 ∨ k = 7 ∨ k = 8 ∨ k = 9 ∨ k = 10) with q | q | q | q | q | q | q | q | q | q | q <;> subst q <;> rfl
  · simp only [show ¬ k = 0 by omega, show ¬ k = 1 by omega, show ¬ k = 2 by omega, show ¬ k = 3 by omega, show ¬ k = 4 by omega, show ¬ k = 5 by omega, show ¬ k = 6 by omega, show ¬ k = 7 by omega, show ¬ k = 8 by omega, show ¬ k = 9 by omega, show ¬ k = 10 by omega, if_false]
theorem tq_w2 : upd (tq_sc s E) 2 v = tq_sc (va_up s 2 v) E := by
  funext k
  simp only [upd, tq_sc, va_up]
  by_cases r11 : k < 11
  · rcases (by omega : k = 0 ∨ k = 1 ∨ k = 2 ∨ k = 3 ∨ k = 4 ∨ k = 5 ∨ k = 6 ∨ k = 7 ∨ k = 8 ∨ k = 9 ∨ k = 10) with q | q | q | q | q | q | q | q | q | q | q <;> subst q <;> rfl
  · simp only [show ¬ k = 0 by omega, show ¬ k = 1 by omega, show ¬ k = 2 by omega, show ¬ k = 3 by omega, show ¬ k = 4 by omega, show ¬ k = 5 by omega, show ¬ k = 6 by omega, show ¬ k = 7 by omega, show ¬ k = 8 by omega, show ¬ k = 9 by omega, show ¬ k = 10 by omega, if_false]
theorem tq_w3 : upd (tq_sc s E) 3 v = tq_sc (va_up s 3 v) E := by
  funext k
  simp only [upd, tq_sc, va_up]
  by_cases r11 : k < 11
  · rcases (by omega : k = 0 ∨ k = 1 ∨ k = 2 ∨ k = 3 ∨ k = 4 ∨ k = 5 ∨ k = 6 ∨ k = 7 ∨ k = 8 ∨ k = 9 ∨ k = 10) with q | q | q | q | q | q | q | q | q | q | q <;> subst q <;> rfl
  · simp only [show ¬ k = 0 by omega, show ¬ k = 1 by omega, show ¬ k = 2 by omega, show ¬ k = 3 by omega, show ¬ k = 4 by omega, show ¬ k = 5 by omega, show ¬ k = 6 by omega, show ¬ k = 7 by omega, show ¬ k = 8 by omega, show ¬ k = 9 by omega, show ¬ k = 10 by omega, if_false]
theorem tq_w4 : upd (tq_sc s E) 4 v = tq_sc (va_up s 7 v) E := by
  funext k
  simp only [upd, tq_sc, va_up]
  by_cases r11 : k < 11
  · rcases (by omega : k = 0 ∨ k = 1 ∨ k = 2 ∨ k = 3 ∨ k = 4 ∨ k = 5 ∨ k = 6 ∨ k = 7 ∨ k = 8 ∨ k = 9 ∨ k = 10) with q | q | q | q | q | q | q | q | q | q | q <;> subst q <;> rfl
  · simp only [show ¬ k = 0 by omega, show ¬ k = 1 by omega, show ¬ k = 2 by omega, show ¬ k = 3 by omega, show ¬ k = 4 by omega, show ¬ k = 5 by omega, show ¬ k = 6 by omega, show ¬ k = 7 by omega, show ¬ k = 8 by omega, show ¬ k = 9 by omega, show ¬ k = 10 by omega, if_false]
theorem tq_w5 : upd (tq_sc s E) 5 v = tq_sc (va_up s 8 v) E := by
  funext k
  simp only [upd, tq_sc, va_up]
  by_cases r11 : k < 11
  · rcases (by omega : k = 0 ∨ k = 1 ∨ k = 2 ∨ k = 3 ∨ k = 4 ∨ k = 5 ∨ k = 6 ∨ k = 7 ∨ k = 8 ∨ k = 9 ∨ k = 10) with q | q | q | q | q | q | q | q | q | q | q <;> subst q <;> rfl
  · simp only [show ¬ k = 0 by omega, show ¬ k = 1 by omega, show ¬ k = 2 by omega, show ¬ k = 3 by omega, show ¬ k = 4 by omega, show ¬ k = 5 by omega, show ¬ k = 6 by omega, show ¬ k = 7 by omega, show ¬ k = 8 by omega, show ¬ k = 9 by omega, show ¬ k = 10 by omega, if_false]
theorem tq_w6 : upd (tq_sc s E) 6 v = tq_sc (va_up s 9 v) E := by
  funext k
  simp only [upd, tq_sc, va_up]
  by_cases r11 : k < 11
  · rcases (by omega : k = 0 ∨ k = 1 ∨ k = 2 ∨ k = 3 ∨ k = 4 ∨ k = 5 ∨ k = 6 ∨ k = 7 ∨ k = 8 ∨ k = 9 ∨ k = 10) with q | q | q | q | q | q | q | q | q | q | q <;> subst q <;> rfl
  · simp only [show ¬ k = 0 by omega, show ¬ k = 1 by omega, show ¬ k = 2 by omega, show ¬ k = 3 by omega, show ¬ k = 4 by omega, show ¬ k = 5 by omega, show ¬ k = 6 by omega, show ¬ k = 7 by omega, show ¬ k = 8 by omega, show ¬ k = 9 by omega, show ¬ k = 10 by omega, if_false]
theorem tq_w7 : upd (tq_sc s E) 7 v = tq_sc (va_up s 10 v) E := by
  funext k
  simp only [upd, tq_sc, va_up]
  by_cases r11 : k < 11
  · rcases (by omega : k = 0 ∨ k = 1 ∨ k = 2 ∨ k = 3 ∨ k = 4 ∨ k = 5 ∨ k = 6 ∨ k = 7 ∨ k = 8 ∨ k = 9 ∨ k = 10) with q | q | q | q | q | q | q | q | q | q | q <;> subst q <;> rfl
  · simp only [show ¬ k = 0 by omega, show ¬ k = 1 by omega, show ¬ k = 2 by omega, show ¬ k = 3 by omega, show ¬ k = 4 by omega, show ¬ k = 5 by omega, show ¬ k = 6 by omega, show ¬ k = 7 by omega, show ¬ k = 8 by omega, show ¬ k = 9 by omega, show ¬ k = 10 by omega, if_false]
theorem tq_w8 : upd (tq_sc s E) 8 v = tq_sc (va_up s 4 v) E := by
  funext k
  simp only [upd, tq_sc, va_up]
  by_cases r11 : k < 11
  · rcases (by omega : k = 0 ∨ k = 1 ∨ k = 2 ∨ k = 3 ∨ k = 4 ∨ k = 5 ∨ k = 6 ∨ k = 7 ∨ k = 8 ∨ k = 9 ∨ k = 10) with q | q | q | q | q | q | q | q | q | q | q <;> subst q <;> rfl
  · simp only [show ¬ k = 0 by omega, show ¬ k = 1 by omega, show ¬ k = 2 by omega, show ¬ k = 3 by omega, show ¬ k = 4 by omega, show ¬ k = 5 by omega, show ¬ k = 6 by omega, show ¬ k = 7 by omega, show ¬ k = 8 by omega, show ¬ k = 9 by omega, show ¬ k = 10 by omega, if_false]
theorem tq_w9 : upd (tq_sc s E) 9 v = tq_sc s (va_up E 0 v) := by
  funext k
  simp only [upd, tq_sc, va_up]
  by_cases r11 : k < 11
  · rcases (by omega : k = 0 ∨ k = 1 ∨ k = 2 ∨ k = 3 ∨ k = 4 ∨ k = 5 ∨ k = 6 ∨ k = 7 ∨ k = 8 ∨ k = 9 ∨ k = 10) with q | q | q | q | q | q | q | q | q | q | q <;> subst q <;> rfl
  · simp only [show ¬ k = 0 by omega, show ¬ k = 1 by omega, show ¬ k = 2 by omega, show ¬ k = 3 by omega, show ¬ k = 4 by omega, show ¬ k = 5 by omega, show ¬ k = 6 by omega, show ¬ k = 7 by omega, show ¬ k = 8 by omega, show ¬ k = 9 by omega, show ¬ k = 10 by omega, if_false]
theorem tq_w10 : upd (tq_sc s E) 10 v = tq_sc s (va_up E 1 v) := by
  funext k
  simp only [upd, tq_sc, va_up]
  by_cases r11 : k < 11
  · rcases (by omega : k = 0 ∨ k = 1 ∨ k = 2 ∨ k = 3 ∨ k = 4 ∨ k = 5 ∨ k = 6 ∨ k = 7 ∨ k = 8 ∨ k = 9 ∨ k = 10) with q | q | q | q | q | q | q | q | q | q | q <;> subst q <;> rfl
  · simp only [show ¬ k = 0 by omega, show ¬ k = 1 by omega, show ¬ k = 2 by omega, show ¬ k = 3 by omega, show ¬ k = 4 by omega, show ¬ k = 5 by omega, show ¬ k = 6 by omega, show ¬ k = 7 by omega, show ¬ k = 8 by omega, show ¬ k = 9 by omega, show ¬ k = 10 by omega, if_false]
theorem tq_w : upd (tq_sc s E) 0 v = tq_sc (va_up s 0 v) E ∧ upd (tq_sc s E) 1 v = tq_sc (va_up s 1 v) E ∧ upd (tq_sc s E) 2 v = tq_sc (va_up s 2 v) E ∧ upd (tq_sc s E) 3 v = tq_sc (va_up s 3 v) E ∧ upd (tq_sc s E) 4 v = tq_sc (va_up s 7 v) E ∧ upd (tq_sc s E) 5 v = tq_sc (va_up s 8 v) E ∧ upd (tq_sc s E) 6 v = tq_sc (va_up s 9 v) E ∧ upd (tq_sc s E) 7 v = tq_sc (va_up s 10 v) E ∧ upd (tq_sc s E) 8 v = tq_sc (va_up s 4 v) E ∧ upd (tq_sc s E) 9 v = tq_sc s (va_up E 0 v) ∧ upd (tq_sc s E) 10 v = tq_sc s (va_up E 1 v) :=
  ⟨tq_w0, tq_w1, tq_w2, tq_w3, tq_w4, tq_w5, tq_w6, tq_w7, tq_w8, tq_w9, tq_w10⟩
theorem tw_sz : (tw h s a E N Q W).2 = h.2 := rfl
theorem tw_out (hk : k < 113 ∨ 151 ≤ k) : (tw h s a E N Q W).1 k = h.1 k := by
  simp only [tw]
  rw [if_neg (by omega)]
theorem tw_w {x : va_E} (hk : 113 ≤ k ∧ k < 151) (e : ∀ j, 113 ≤ j → j < 151 → tw_cell s' a' E' N' Q' W' j = if j = k then x else tw_cell s a E N Q W j) : jx_put (tw h s a E N Q W) k x = tw h s' a' E' N' Q' W' := by
  simp only [jx_put, tw]
  congr 1
  funext j
  by_cases r : 113 ≤ j ∧ j < 151
  · rw [if_pos r, if_pos r, e j r.1 r.2]
  · rw [if_neg r, if_neg r, if_neg (by omega)]
theorem tw_wo : jx_put (tw h s a E N Q W) 113 (.inr (3, tw_ob N')) = tw h s a E N' Q W := by
  refine tw_w (by omega) fun j h1 h2 => ?_
  by_cases r : j = 113
  · subst r; rfl
  · rw [if_neg r]; simp only [tw_cell, r, if_false]
theorem tw_wsc : jx_put (tw h s a E N Q W) 114 (.inl (0, 11, .inl (tq_sc s' E'))) = tw h s' a E' N Q W := by
  refine tw_w (by omega) fun j h1 h2 => ?_
  by_cases r : j = 114
  · subst r; rfl
  · rw [if_neg r]; simp only [tw_cell, r, if_false]
theorem tq_ile {f g : Nat → Int32} : tq_ev (tq_il f g) = f := by
  funext k
  simp only [tq_ev, tq_il]
  rw [if_pos (by omega)]
  congr 1
  omega
theorem tq_ilo {f g : Nat → Int32} : tq_od (tq_il f g) = g := by
  funext k
  simp only [tq_od, tq_il]
  rw [if_neg (by omega)]
  congr 1
  omega
theorem tq_ile_u {f : Nat → Int32} : tq_il (upd (tq_ev f) k v) (tq_od f) = upd f (2 * k) v := by
  funext j
  simp only [tq_il, tq_ev, tq_od, upd]
  by_cases r : j % 2 = 0
  · rw [if_pos r]
    by_cases q : j / 2 = k
    · rw [if_pos q, if_pos (by omega)]
    · rw [if_neg q, if_neg (by omega)]
      congr 1; omega
  · rw [if_neg r, if_neg (by omega)]
    congr 1; omega
theorem tq_ilo_u {f : Nat → Int32} : tq_il (tq_ev f) (upd (tq_od f) k v) = upd f (2 * k + 1) v := by
  funext j
  simp only [tq_il, tq_ev, tq_od, upd]
  by_cases r : j % 2 = 0
  · rw [if_pos r, if_neg (by omega)]
    congr 1; omega
  · rw [if_neg r]
    by_cases q : j / 2 = k
    · rw [if_pos q, if_pos (by omega)]
    · rw [if_neg q, if_neg (by omega)]
      congr 1; omega
theorem tw_w2 : jx_put (tw h s a E N Q W) 115 (.inl (0, 6, .inl (f))) = tw h s (va_up a 0 f) E N Q W := by
  refine tw_w (by omega) fun j h1 h2 => ?_
  by_cases r : j = 115
  · subst r; rfl
  · rw [if_neg r]; simp only [tw_cell, r, if_false, va_up, reduceIte, Nat.reduceEqDiff]
theorem tw_w3 : jx_put (tw h s a E N Q W) 116 (.inl (0, 6, .inl (f))) = tw h s (va_up a 2 f) E N Q W := by
  refine tw_w (by omega) fun j h1 h2 => ?_
  by_cases r : j = 116
  · subst r; rfl
  · rw [if_neg r]; simp only [tw_cell, r, if_false, va_up, reduceIte, Nat.reduceEqDiff]
theorem tw_w4 : jx_put (tw h s a E N Q W) 117 (.inl (0, 6, .inl (f))) = tw h s (va_up a 6 f) E N Q W := by
  refine tw_w (by omega) fun j h1 h2 => ?_
  by_cases r : j = 117
  · subst r; rfl
  · rw [if_neg r]; simp only [tw_cell, r, if_false, va_up, reduceIte, Nat.reduceEqDiff]
theorem tw_w5 : jx_put (tw h s a E N Q W) 118 (.inl (0, 12, .inl (f))) = tw h s (va_up a 1 f) E N Q W := by
  refine tw_w (by omega) fun j h1 h2 => ?_
  by_cases r : j = 118
  · subst r; rfl
  · rw [if_neg r]; simp only [tw_cell, r, if_false, va_up, reduceIte, Nat.reduceEqDiff]
theorem tw_w6 : jx_put (tw h s a E N Q W) 119 (.inl (0, 6, .inl (f))) = tw h s (va_up a 7 f) E N Q W := by
  refine tw_w (by omega) fun j h1 h2 => ?_
  by_cases r : j = 119
  · subst r; rfl
  · rw [if_neg r]; simp only [tw_cell, r, if_false, va_up, reduceIte, Nat.reduceEqDiff]
theorem tw_w7 : jx_put (tw h s a E N Q W) 120 (.inl (0, 6, .inl (f))) = tw h s (va_up a 4 f) E N Q W := by
  refine tw_w (by omega) fun j h1 h2 => ?_
  by_cases r : j = 120
  · subst r; rfl
  · rw [if_neg r]; simp only [tw_cell, r, if_false, va_up, reduceIte, Nat.reduceEqDiff]
theorem tw_w8 : jx_put (tw h s a E N Q W) 121 (.inl (0, 6, .inl (f))) = tw h s (va_up a 8 f) E N Q W := by
  refine tw_w (by omega) fun j h1 h2 => ?_
  by_cases r : j = 121
  · subst r; rfl
  · rw [if_neg r]; simp only [tw_cell, r, if_false, va_up, reduceIte, Nat.reduceEqDiff]
theorem tw_w9 : jx_put (tw h s a E N Q W) 122 (.inl (0, 6, .inl (f))) = tw h s (va_up a 9 f) E N Q W := by
  refine tw_w (by omega) fun j h1 h2 => ?_
  by_cases r : j = 122
  · subst r; rfl
  · rw [if_neg r]; simp only [tw_cell, r, if_false, va_up, reduceIte, Nat.reduceEqDiff]
theorem tw_w10 : jx_put (tw h s a E N Q W) 123 (.inl (0, 10, .inl (f))) = tw h s (va_up a 5 (tq_il f (tq_od (a 5)))) E N Q W := by
  refine tw_w (by omega) fun j h1 h2 => ?_
  by_cases r : j = 123
  · subst r; rw [if_pos rfl]; exact congrArg (fun z => (Sum.inl (0, 10, Sum.inl z) : va_E)) tq_ile
  · rw [if_neg r]; simp only [tw_cell, r, if_false, va_up, reduceIte, Nat.reduceEqDiff, tq_ile, tq_ilo]
theorem tw_w11 : jx_put (tw h s a E N Q W) 124 (.inl (0, 10, .inl (f))) = tw h s (va_up a 5 (tq_il (tq_ev (a 5)) f)) E N Q W := by
  refine tw_w (by omega) fun j h1 h2 => ?_
  by_cases r : j = 124
  · subst r; rw [if_pos rfl]; exact congrArg (fun z => (Sum.inl (0, 10, Sum.inl z) : va_E)) tq_ilo
  · rw [if_neg r]; simp only [tw_cell, r, if_false, va_up, reduceIte, Nat.reduceEqDiff, tq_ile, tq_ilo]
theorem tw_w12 : jx_put (tw h s a E N Q W) 125 (.inl (0, 6, .inl (f))) = tw h s (va_up a 3 f) E N Q W := by
  refine tw_w (by omega) fun j h1 h2 => ?_
  by_cases r : j = 125
  · subst r; rfl
  · rw [if_neg r]; simp only [tw_cell, r, if_false, va_up, reduceIte, Nat.reduceEqDiff]
theorem tw_w13 : jx_put (tw h s a E N Q W) 126 (.inl (0, 4, .inl (f))) = tw h s a E N (va_up Q 13 f) W := by
  refine tw_w (by omega) fun j h1 h2 => ?_
  by_cases r : j = 126
  · subst r; rfl
  · rw [if_neg r]; simp only [tw_cell, r, if_false, va_up, reduceIte, Nat.reduceEqDiff]
theorem tw_w14 : jx_put (tw h s a E N Q W) 127 (.inl (0, 6, .inl (f))) = tw h s a E N (va_up Q 14 f) W := by
  refine tw_w (by omega) fun j h1 h2 => ?_
  by_cases r : j = 127
  · subst r; rfl
  · rw [if_neg r]; simp only [tw_cell, r, if_false, va_up, reduceIte, Nat.reduceEqDiff]
theorem tw_w15 : jx_put (tw h s a E N Q W) 128 (.inl (0, 6, .inl (f))) = tw h s a E N (va_up Q 15 f) W := by
  refine tw_w (by omega) fun j h1 h2 => ?_
  by_cases r : j = 128
  · subst r; rfl
  · rw [if_neg r]; simp only [tw_cell, r, if_false, va_up, reduceIte, Nat.reduceEqDiff]
theorem tw_w16 : jx_put (tw h s a E N Q W) 129 (.inl (0, 12, .inl (f))) = tw h s a E N (va_up Q 16 f) W := by
  refine tw_w (by omega) fun j h1 h2 => ?_
  by_cases r : j = 129
  · subst r; rfl
  · rw [if_neg r]; simp only [tw_cell, r, if_false, va_up, reduceIte, Nat.reduceEqDiff]
theorem tw_w17 : jx_put (tw h s a E N Q W) 130 (.inl (0, 6, .inl (f))) = tw h s a E N (va_up Q 17 f) W := by
  refine tw_w (by omega) fun j h1 h2 => ?_
  by_cases r : j = 130
  · subst r; rfl
  · rw [if_neg r]; simp only [tw_cell, r, if_false, va_up, reduceIte, Nat.reduceEqDiff]
theorem tw_w18 : jx_put (tw h s a E N Q W) 131 (.inl (0, 6, .inl (f))) = tw h s a E N (va_up Q 18 f) W := by
  refine tw_w (by omega) fun j h1 h2 => ?_
  by_cases r : j = 131
  · subst r; rfl
  · rw [if_neg r]; simp only [tw_cell, r, if_false, va_up, reduceIte, Nat.reduceEqDiff]
theorem tw_w29 : jx_put (tw h s a E N Q W) 132 (.inl (1, 400, .inl (f))) = tw h s a E N (va_up Q 29 f) W := by
  refine tw_w (by omega) fun j h1 h2 => ?_
  by_cases r : j = 132
  · subst r; rfl
  · rw [if_neg r]; simp only [tw_cell, r, if_false, va_up, reduceIte, Nat.reduceEqDiff]
theorem tw_w30 : jx_put (tw h s a E N Q W) 133 (.inl (0, 1800, .inl (f))) = tw h s a E N (va_up Q 30 f) W := by
  refine tw_w (by omega) fun j h1 h2 => ?_
  by_cases r : j = 133
  · subst r; rfl
  · rw [if_neg r]; simp only [tw_cell, r, if_false, va_up, reduceIte, Nat.reduceEqDiff]
theorem tw_w31 : jx_put (tw h s a E N Q W) 134 (.inl (0, 1800, .inl (f))) = tw h s a E N (va_up Q 31 f) W := by
  refine tw_w (by omega) fun j h1 h2 => ?_
  by_cases r : j = 134
  · subst r; rfl
  · rw [if_neg r]; simp only [tw_cell, r, if_false, va_up, reduceIte, Nat.reduceEqDiff]
theorem tw_w32 : jx_put (tw h s a E N Q W) 135 (.inl (0, 6, .inl (f))) = tw h s a E N (va_up Q 32 f) W := by
  refine tw_w (by omega) fun j h1 h2 => ?_
  by_cases r : j = 135
  · subst r; rfl
  · rw [if_neg r]; simp only [tw_cell, r, if_false, va_up, reduceIte, Nat.reduceEqDiff]
theorem tw_w33 : jx_put (tw h s a E N Q W) 136 (.inl (0, 72, .inl (f))) = tw h s a E N (va_up Q 33 f) W := by
  refine tw_w (by omega) fun j h1 h2 => ?_
  by_cases r : j = 136
  · subst r; rfl
  · rw [if_neg r]; simp only [tw_cell, r, if_false, va_up, reduceIte, Nat.reduceEqDiff]
theorem tw_w34 : jx_put (tw h s a E N Q W) 137 (.inl (0, 72, .inl (f))) = tw h s a E N (va_up Q 34 f) W := by
  refine tw_w (by omega) fun j h1 h2 => ?_
  by_cases r : j = 137
  · subst r; rfl
  · rw [if_neg r]; simp only [tw_cell, r, if_false, va_up, reduceIte, Nat.reduceEqDiff]
theorem tw_w35 : jx_put (tw h s a E N Q W) 138 (.inl (0, 72, .inl (f))) = tw h s a E N (va_up Q 35 f) W := by
  refine tw_w (by omega) fun j h1 h2 => ?_
  by_cases r : j = 138
  · subst r; rfl
  · rw [if_neg r]; simp only [tw_cell, r, if_false, va_up, reduceIte, Nat.reduceEqDiff]
theorem tw_w36 : jx_put (tw h s a E N Q W) 139 (.inl (0, 402, .inl (f))) = tw h s a E N (va_up Q 36 f) W := by
  refine tw_w (by omega) fun j h1 h2 => ?_
  by_cases r : j = 139
  · subst r; rfl
  · rw [if_neg r]; simp only [tw_cell, r, if_false, va_up, reduceIte, Nat.reduceEqDiff]
theorem tw_w37 : jx_put (tw h s a E N Q W) 140 (.inl (2, 12, .inr (.inl (g)))) = tw h s a E N Q (va_up W 0 g) := by
  refine tw_w (by omega) fun j h1 h2 => ?_
  by_cases r : j = 140
  · subst r; rfl
  · rw [if_neg r]; simp only [tw_cell, r, if_false, va_up, reduceIte, Nat.reduceEqDiff]
theorem tw_w38 : jx_put (tw h s a E N Q W) 141 (.inl (2, 300, .inr (.inl (g)))) = tw h s a E N Q (va_up W 1 g) := by
  refine tw_w (by omega) fun j h1 h2 => ?_
  by_cases r : j = 141
  · subst r; rfl
  · rw [if_neg r]; simp only [tw_cell, r, if_false, va_up, reduceIte, Nat.reduceEqDiff]
theorem tw_w39 : jx_put (tw h s a E N Q W) 142 (.inl (0, 560, .inl (f))) = tw h s (va_up a 10 f) E N Q W := by
  refine tw_w (by omega) fun j h1 h2 => ?_
  by_cases r : j = 142
  · subst r; rfl
  · rw [if_neg r]; simp only [tw_cell, r, if_false, va_up, reduceIte, Nat.reduceEqDiff]
theorem tw_w40 : jx_put (tw h s a E N Q W) 143 (.inl (0, 1, .inl (f))) = tw h s a E N (va_up Q 40 f) W := by
  refine tw_w (by omega) fun j h1 h2 => ?_
  by_cases r : j = 143
  · subst r; rfl
  · rw [if_neg r]; simp only [tw_cell, r, if_false, va_up, reduceIte, Nat.reduceEqDiff]
theorem tw_w44 : jx_put (tw h s a E N Q W) 144 (.inl (0, 6, .inl (f))) = tw h s a E N (va_up Q 44 f) W := by
  refine tw_w (by omega) fun j h1 h2 => ?_
  by_cases r : j = 144
  · subst r; rfl
  · rw [if_neg r]; simp only [tw_cell, r, if_false, va_up, reduceIte, Nat.reduceEqDiff]
theorem tw_w45 : jx_put (tw h s a E N Q W) 145 (.inl (0, 25, .inl (f))) = tw h s a E N (va_up Q 45 f) W := by
  refine tw_w (by omega) fun j h1 h2 => ?_
  by_cases r : j = 145
  · subst r; rfl
  · rw [if_neg r]; simp only [tw_cell, r, if_false, va_up, reduceIte, Nat.reduceEqDiff]
theorem tw_w46 : jx_put (tw h s a E N Q W) 146 (.inl (0, 25, .inl (f))) = tw h s a E N (va_up Q 46 f) W := by
  refine tw_w (by omega) fun j h1 h2 => ?_
  by_cases r : j = 146
  · subst r; rfl
  · rw [if_neg r]; simp only [tw_cell, r, if_false, va_up, reduceIte, Nat.reduceEqDiff]
theorem tw_w47 : jx_put (tw h s a E N Q W) 147 (.inl (0, 66, .inl (f))) = tw h s a E N (va_up Q 47 f) W := by
  refine tw_w (by omega) fun j h1 h2 => ?_
  by_cases r : j = 147
  · subst r; rfl
  · rw [if_neg r]; simp only [tw_cell, r, if_false, va_up, reduceIte, Nat.reduceEqDiff]
theorem tw_w48 : jx_put (tw h s a E N Q W) 148 (.inl (0, 427, .inl (f))) = tw h s a E N (va_up Q 48 f) W := by
  refine tw_w (by omega) fun j h1 h2 => ?_
  by_cases r : j = 148
  · subst r; rfl
  · rw [if_neg r]; simp only [tw_cell, r, if_false, va_up, reduceIte, Nat.reduceEqDiff]
theorem tw_w49 : jx_put (tw h s a E N Q W) 149 (.inl (0, 3500, .inl (f))) = tw h s a E N (va_up Q 49 f) W := by
  refine tw_w (by omega) fun j h1 h2 => ?_
  by_cases r : j = 149
  · subst r; rfl
  · rw [if_neg r]; simp only [tw_cell, r, if_false, va_up, reduceIte, Nat.reduceEqDiff]
theorem tw_w50 : jx_put (tw h s a E N Q W) 150 (.inl (3, 4, .inl (f))) = tw h s a E N (va_up Q 50 f) W := by
  refine tw_w (by omega) fun j h1 h2 => ?_
  by_cases r : j = 150
  · subst r; rfl
  · rw [if_neg r]; simp only [tw_cell, r, if_false, va_up, reduceIte, Nat.reduceEqDiff]
end TW
