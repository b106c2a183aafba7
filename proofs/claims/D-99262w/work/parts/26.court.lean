/-! A COURT: thirteen cells from b on. Its numbers s, its rows a, its words w -/
abbrev cq_C : Type := (Nat → Int32) × (Nat → Nat → Int32) × (Nat → Int64)
def cq_len : Nat → Nat
  | 1 => 12
  | 5 => 20
  | 10 => 560
  | _ => 6
def cq_ob (b : Nat) (s : Nat → Int32) : List Value := [.int (s 0), .int (s 1), .int (s 2), .int (s 3), .int (s 4), .int (s 5), .int (s 6), .int (s 7), .int (s 8), .int (s 9), .int (s 10), .ref (b + 1), .ref (b + 2), .ref (b + 3), .ref (b + 4), .ref (b + 5), .ref (b + 6), .ref (b + 7), .ref (b + 8), .ref (b + 9), .ref (b + 10), .ref (b + 11), .ref (b + 12)]
def cq_cell (b : Nat) (C : cq_C) (j : Nat) : va_E := if j = 0 then .inr (1, cq_ob b C.1) else if j = 12 then .inl (2, 12, .inr (.inl C.2.2)) else .inl (0, cq_len (j - 1), .inl (C.2.1 (j - 1)))
def cq_put (h : jx_H) (b : Nat) (C : cq_C) : jx_H := (fun k => if b ≤ k ∧ k < b + 13 then cq_cell b C (k - b) else h.1 k, h.2)
section CQ
variable {h : jx_H} {b : Nat} {s s' : Nat → Int32} {a : Nat → Nat → Int32} {w w' : Nat → Int64} {f : Nat → Int32} {v : Int32}
theorem cq_in {C : cq_C} {j : Nat} (hj : j < 13) : (cq_put h b C).1 (b + j) = cq_cell b C j := by
  simp only [cq_put]
  rw [if_pos ⟨by omega, by omega⟩, show b + j - b = j by omega]
theorem cq_out {C : cq_C} {k : Nat} (hk : k < b ∨ b + 13 ≤ k) : (cq_put h b C).1 k = h.1 k := by
  simp only [cq_put]
  rw [if_neg (by omega)]
theorem cq_sz {C : cq_C} : (cq_put h b C).2 = h.2 := rfl
theorem cq_r : (cq_put h b (s, a, w)).1 b = .inr (1, cq_ob b s) ∧ (cq_put h b (s, a, w)).1 (b + 1) = .inl (0, 6, .inl (a 0)) ∧ (cq_put h b (s, a, w)).1 (b + 2) = .inl (0, 12, .inl (a 1)) ∧ (cq_put h b (s, a, w)).1 (b + 3) = .inl (0, 6, .inl (a 2)) ∧ (cq_put h b (s, a, w)).1 (b + 4) = .inl (0, 6, .inl (a 3)) ∧ (cq_put h b (s, a, w)).1 (b + 5) = .inl (0, 6, .inl (a 4)) ∧
    (cq_put h b (s, a, w)).1 (b + 6) = .inl (0, 20, .inl (a 5)) ∧ (cq_put h b (s, a, w)).1 (b + 7) = .inl (0, 6, .inl (a 6)) ∧ (cq_put h b (s, a, w)).1 (b + 8) = .inl (0, 6, .inl (a 7)) ∧ (cq_put h b (s, a, w)).1 (b + 9) = .inl (0, 6, .inl (a 8)) ∧ (cq_put h b (s, a, w)).1 (b + 10) = .inl (0, 6, .inl (a 9)) ∧ (cq_put h b (s, a, w)).1 (b + 11) = .inl (0, 560, .inl (a 10)) ∧ (cq_put h b (s, a, w)).1 (b + 12) = .inl (2, 12, .inr (.inl w)) :=
  ⟨cq_in (j := 0) (by decide), cq_in (by decide), cq_in (by decide), cq_in (by decide), cq_in (by decide), cq_in (by decide), cq_in (by decide), cq_in (by decide), cq_in (by decide), cq_in (by decide), cq_in (by decide), cq_in (by decide), cq_in (by decide)⟩
theorem cq_f : (cq_ob b s)[0]? = some (.int (s 0)) ∧ (cq_ob b s)[1]? = some (.int (s 1)) ∧ (cq_ob b s)[2]? = some (.int (s 2)) ∧ (cq_ob b s)[3]? = some (.int (s 3)) ∧ (cq_ob b s)[4]? = some (.int (s 4)) ∧ (cq_ob b s)[5]? = some (.int (s 5)) ∧ (cq_ob b s)[6]? = some (.int (s 6)) ∧ (cq_ob b s)[7]? = some (.int (s 7)) ∧ (cq_ob b s)[8]? = some (.int (s 8)) ∧ (cq_ob b s)[9]? = some (.int (s 9)) ∧ (cq_ob b s)[10]? = some (.int (s 10)) ∧
    (cq_ob b s)[11]? = some (.ref (b + 1)) ∧ (cq_ob b s)[12]? = some (.ref (b + 2)) ∧ (cq_ob b s)[13]? = some (.ref (b + 3)) ∧ (cq_ob b s)[14]? = some (.ref (b + 4)) ∧ (cq_ob b s)[15]? = some (.ref (b + 5)) ∧ (cq_ob b s)[16]? = some (.ref (b + 6)) ∧ (cq_ob b s)[17]? = some (.ref (b + 7)) ∧ (cq_ob b s)[18]? = some (.ref (b + 8)) ∧ (cq_ob b s)[19]? = some (.ref (b + 9)) ∧ (cq_ob b s)[20]? = some (.ref (b + 10)) ∧ (cq_ob b s)[21]? = some (.ref (b + 11)) ∧ (cq_ob b s)[22]? = some (.ref (b + 12)) :=
  ⟨rfl, rfl, rfl, rfl, rfl, rfl, rfl, rfl, rfl, rfl, rfl, rfl, rfl, rfl, rfl, rfl, rfl, rfl, rfl, rfl, rfl, rfl, rfl⟩
theorem cq_s : (cq_ob b s).set 0 (.int v) = cq_ob b (va_up s 0 v) ∧ (cq_ob b s).set 1 (.int v) = cq_ob b (va_up s 1 v) ∧ (cq_ob b s).set 2 (.int v) = cq_ob b (va_up s 2 v) ∧ (cq_ob b s).set 3 (.int v) = cq_ob b (va_up s 3 v) ∧ (cq_ob b s).set 4 (.int v) = cq_ob b (va_up s 4 v) ∧ (cq_ob b s).set 5 (.int v) = cq_ob b (va_up s 5 v) ∧ (cq_ob b s).set 6 (.int v) = cq_ob b (va_up s 6 v) ∧ (cq_ob b s).set 7 (.int v) = cq_ob b (va_up s 7 v) ∧ (cq_ob b s).set 8 (.int v) = cq_ob b (va_up s 8 v) ∧ (cq_ob b s).set 9 (.int v) = cq_ob b (va_up s 9 v) ∧ (cq_ob b s).set 10 (.int v) = cq_ob b (va_up s 10 v) :=
  ⟨rfl, rfl, rfl, rfl, rfl, rfl, rfl, rfl, rfl, rfl, rfl⟩
theorem cq_set {C C' : cq_C} {j : Nat} {x : va_E} (hj : j < 13) (e : ∀ i, i < 13 → cq_cell b C' i = if i = j then x else cq_cell b C i) : jx_put (cq_put h b C) (b + j) x = cq_put h b C' := by
  simp only [jx_put, cq_put]
  congr 1
  funext k
  by_cases q : b ≤ k ∧ k < b + 13
  · rw [if_pos q, if_pos q, e (k - b) (by omega)]
    by_cases e2 : k = b + j
    · rw [if_pos e2, if_pos (by omega)]
    · rw [if_neg e2, if_neg (by omega)]
  · rw [if_neg q, if_neg q, if_neg (by omega)]
theorem cq_wo : jx_put (cq_put h b (s, a, w)) b (.inr (1, cq_ob b s')) = cq_put h b (s', a, w) := by
  refine cq_set (j := 0) (by decide) fun i hi => ?_
  simp only [cq_cell]
  split <;> rfl
theorem cq_wa {j n : Nat} (hj : j < 11) (hn : n = cq_len j) : jx_put (cq_put h b (s, a, w)) (b + (j + 1)) (.inl (0, n, .inl f)) = cq_put h b (s, va_up a j f, w) := by
  subst hn
  refine cq_set (j := j + 1) (by omega) fun i hi => ?_
  simp only [cq_cell, va_up]
  by_cases e : i = j + 1
  · subst e
    rw [if_pos rfl, if_neg (by omega), if_neg (by omega), Nat.add_sub_cancel, if_pos rfl]
  · rw [if_neg e]
    split
    · rfl
    · split
      · rfl
      · rw [if_neg (by omega)]
theorem cq_wr : jx_put (cq_put h b (s, a, w)) (b + 1) (.inl (0, 6, .inl f)) = cq_put h b (s, va_up a 0 f, w) ∧ jx_put (cq_put h b (s, a, w)) (b + 2) (.inl (0, 12, .inl f)) = cq_put h b (s, va_up a 1 f, w) ∧ jx_put (cq_put h b (s, a, w)) (b + 3) (.inl (0, 6, .inl f)) = cq_put h b (s, va_up a 2 f, w) ∧ jx_put (cq_put h b (s, a, w)) (b + 4) (.inl (0, 6, .inl f)) = cq_put h b (s, va_up a 3 f, w) ∧ jx_put (cq_put h b (s, a, w)) (b + 5) (.inl (0, 6, .inl f)) = cq_put h b (s, va_up a 4 f, w) ∧
    jx_put (cq_put h b (s, a, w)) (b + 6) (.inl (0, 20, .inl f)) = cq_put h b (s, va_up a 5 f, w) ∧ jx_put (cq_put h b (s, a, w)) (b + 7) (.inl (0, 6, .inl f)) = cq_put h b (s, va_up a 6 f, w) ∧ jx_put (cq_put h b (s, a, w)) (b + 8) (.inl (0, 6, .inl f)) = cq_put h b (s, va_up a 7 f, w) ∧ jx_put (cq_put h b (s, a, w)) (b + 9) (.inl (0, 6, .inl f)) = cq_put h b (s, va_up a 8 f, w) ∧ jx_put (cq_put h b (s, a, w)) (b + 10) (.inl (0, 6, .inl f)) = cq_put h b (s, va_up a 9 f, w) ∧ jx_put (cq_put h b (s, a, w)) (b + 11) (.inl (0, 560, .inl f)) = cq_put h b (s, va_up a 10 f, w) := by
  refine ⟨cq_wa (by decide) rfl, cq_wa (by decide) rfl, cq_wa (by decide) rfl, cq_wa (by decide) rfl, cq_wa (by decide) rfl, cq_wa (by decide) rfl, cq_wa (by decide) rfl, cq_wa (by decide) rfl, cq_wa (by decide) rfl, cq_wa (by decide) rfl, cq_wa (by decide) rfl⟩
theorem cq_ww : jx_put (cq_put h b (s, a, w)) (b + 12) (.inl (2, 12, .inr (.inl w'))) = cq_put h b (s, a, w') := by
  refine cq_set (by decide) fun i hi => ?_
  simp only [cq_cell]
  by_cases e : i = 12
  · subst e; rfl
  · rw [if_neg e, if_neg e, if_neg e]
theorem cq_pp {C C' : cq_C} : cq_put (cq_put h b C) b C' = cq_put h b C' := by
  simp only [cq_put]
  congr 1
  funext k
  split <;> rfl
end CQ
theorem va_up_s {α : Type} {f : Nat → α} {k j : Nat} {v : α} : va_up f k v j = if j = k then v else f j := rfl
