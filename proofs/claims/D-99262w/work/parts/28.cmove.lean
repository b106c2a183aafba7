/-! court: copies, begins, lays, takes -/
set_option maxRecDepth 100000
/-- F below n, g from n on -/
def cq_fl (n : Nat) (F g : Nat → Int32) : Nat → Int32 := fun k => if k < n then F k else g k
theorem cq_fl_s {n : Nat} {F g : Nat → Int32} : upd (cq_fl n F g) n (F n) = cq_fl (n + 1) F g := by
  funext k
  simp only [upd, cq_fl]
  by_cases e : k = n
  · subst e; rw [if_pos rfl, if_pos (by omega)]
  · rw [if_neg e]
    by_cases e2 : k < n
    · rw [if_pos e2, if_pos (by omega)]
    · rw [if_neg e2, if_neg (by omega)]
theorem cq_fl_0 {F g : Nat → Int32} : cq_fl 0 F g = g := by
  funext k
  simp only [cq_fl, Nat.not_lt_zero, if_false]
theorem cq_cpf {n : Nat} {f g : Nat → Int32} : va_cpy f g 0 0 n = cq_fl n f g := by
  funext k
  simp only [va_cpy, cq_fl, Nat.zero_le, true_and, Nat.zero_add, Nat.sub_zero]
theorem cq_fl_lt {n k : Nat} {F g : Nat → Int32} (e : k < n) : cq_fl n F g k = F k := if_pos e
theorem cq_fl_ge {n k : Nat} {F g : Nat → Int32} (e : ¬ k < n) : cq_fl n F g k = g k := if_neg e
theorem cq_cp6 {g g1 : Nat → Int32} {f : va_E → Option jx_R} : jx_cp (.inl (0, 6, .inl g)) (.inl (0, 6, .inl g1)) 0 0 6 f = f (.inl (0, 6, .inl (cq_fl 6 g g1))) := by
  rw [jx_cp_i, if_pos (by decide), ← cq_cpf]; rfl
theorem cq_cp12 {g g1 : Nat → Int32} {f : va_E → Option jx_R} : jx_cp (.inl (0, 12, .inl g)) (.inl (0, 12, .inl g1)) 0 0 12 f = f (.inl (0, 12, .inl (cq_fl 12 g g1))) := by
  rw [jx_cp_i, if_pos (by decide), ← cq_cpf]; rfl
theorem cq_cp20 {g g1 : Nat → Int32} {f : va_E → Option jx_R} : jx_cp (.inl (0, 20, .inl g)) (.inl (0, 20, .inl g1)) 0 0 20 f = f (.inl (0, 20, .inl (cq_fl 20 g g1))) := by
  rw [jx_cp_i, if_pos (by decide), ← cq_cpf]; rfl
theorem cq_cp560 {g g1 : Nat → Int32} {f : va_E → Option jx_R} : jx_cp (.inl (0, 560, .inl g)) (.inl (0, 560, .inl g1)) 0 0 560 f = f (.inl (0, 560, .inl (cq_fl 560 g g1))) := by
  rw [jx_cp_i, if_pos (by decide), ← cq_cpf]; rfl
theorem cq_cpw {g g1 : Nat → Int32} {f : va_E → Option jx_R} {k : Nat} (hk : k + 6 ≤ 560) : jx_cp (.inl (0, 6, .inl g)) (.inl (0, 560, .inl g1)) 0 (nI k) 6 f = f (.inl (0, 560, .inl (va_cpy g g1 0 k 6))) := by
  rw [jx_cp_i, nI_toInt (by omega), nI_clamp (by omega), if_pos ⟨by decide, by decide, by omega, by decide, by have : (6 : Int32).toInt = 6 := rfl; omega⟩]; rfl
theorem cq_cpr {g g1 : Nat → Int32} {f : va_E → Option jx_R} {k : Nat} (hk : k + 6 ≤ 560) : jx_cp (.inl (0, 560, .inl g)) (.inl (0, 6, .inl g1)) (nI k) 0 6 f = f (.inl (0, 6, .inl (va_cpy g g1 k 0 6))) := by
  rw [jx_cp_i, nI_toInt (by omega), nI_clamp (by omega), if_pos ⟨by decide, by omega, by decide, by have : (6 : Int32).toInt = 6 := rfl; omega, by decide⟩]; rfl
theorem cq_va0 {k : Nat} {g g1 : Nat → Int32} {j : Nat} (hj : j < 6) : va_cpy g g1 k 0 6 j = g (k + j) := by
  simp only [va_cpy]
  rw [if_pos (by omega)]
  congr 1
/-- the cells of a court, as seen from outside -/
def cq_is (h : jx_H) (c : Nat) (s : Nat → Int32) (a : Nat → Nat → Int32) : Prop :=
  h.1 c = .inr (1, cq_ob c s) ∧ h.1 (c + 1) = .inl (0, 6, .inl (a 0)) ∧ h.1 (c + 2) = .inl (0, 12, .inl (a 1)) ∧ h.1 (c + 3) = .inl (0, 6, .inl (a 2)) ∧ h.1 (c + 4) = .inl (0, 6, .inl (a 3)) ∧ h.1 (c + 5) = .inl (0, 6, .inl (a 4)) ∧ h.1 (c + 6) = .inl (0, 20, .inl (a 5)) ∧ h.1 (c + 7) = .inl (0, 6, .inl (a 6)) ∧ h.1 (c + 8) = .inl (0, 6, .inl (a 7)) ∧ h.1 (c + 9) = .inl (0, 6, .inl (a 8)) ∧ h.1 (c + 10) = .inl (0, 6, .inl (a 9)) ∧ h.1 (c + 11) = .inl (0, 560, .inl (a 10))
theorem cq_is_put {h : jx_H} {b : Nat} {s : Nat → Int32} {a : Nat → Nat → Int32} {w : Nat → Int64} : cq_is (cq_put h b (s, a, w)) b s a := by
  have := @cq_r h b s a w
  exact ⟨this.1, this.2.1, this.2.2.1, this.2.2.2.1, this.2.2.2.2.1, this.2.2.2.2.2.1, this.2.2.2.2.2.2.1, this.2.2.2.2.2.2.2.1, this.2.2.2.2.2.2.2.2.1, this.2.2.2.2.2.2.2.2.2.1, this.2.2.2.2.2.2.2.2.2.2.1, this.2.2.2.2.2.2.2.2.2.2.2.1⟩
theorem cq_is_out {h : jx_H} {b c : Nat} {C : cq_C} {s : Nat → Int32} {a : Nat → Nat → Int32} (hd : c + 13 ≤ b ∨ b + 13 ≤ c) (e : cq_is h c s a) : cq_is (cq_put h b C) c s a := by
  have k : ∀ j, j < 12 → (cq_put h b C).1 (c + j) = h.1 (c + j) := fun j hj => cq_out (by omega)
  unfold cq_is at e ⊢
  rw [← Nat.add_zero c, k 0 (by omega), Nat.add_zero, k 1 (by omega), k 2 (by omega), k 3 (by omega), k 4 (by omega), k 5 (by omega), k 6 (by omega), k 7 (by omega), k 8 (by omega), k 9 (by omega), k 10 (by omega), k 11 (by omega)]
  exact e
theorem cq_sE {h : jx_H} {b : Nat} {s s' : Nat → Int32} {a : Nat → Nat → Int32} {w : Nat → Int64} (e : ∀ k, k < 11 → s k = s' k) : cq_put h b (s, a, w) = cq_put h b (s', a, w) := by
  have : cq_ob b s = cq_ob b s' := by
    simp only [cq_ob]
    rw [e 0 (by decide), e 1 (by decide), e 2 (by decide), e 3 (by decide), e 4 (by decide), e 5 (by decide), e 6 (by decide), e 7 (by decide), e 8 (by decide), e 9 (by decide), e 10 (by decide)]
  simp only [cq_put, cq_cell, this]
theorem cq_aE {h : jx_H} {b : Nat} {s : Nat → Int32} {a a' : Nat → Nat → Int32} {w : Nat → Int64} (e : ∀ j, j < 11 → a j = a' j) : cq_put h b (s, a, w) = cq_put h b (s, a', w) := by
  simp only [cq_put]
  congr 1
  funext k
  split
  · simp only [cq_cell]
    split
    · rfl
    · split
      · rfl
      · rw [e _ (by omega)]
  · rfl
section CM
variable {d : Nat} {h : jx_H} {b c u : Nat} {s s' : Nat → Int32} {a a' : Nat → Nat → Int32} {w : Nat → Int64}
theorem cq_standsAs (hb : 3 ≤ b) (hd : c + 13 ≤ b ∨ b + 13 ≤ c) (hc : cq_is h c s' a') : jx_cr (d + 1) 168 [.ref b, .ref c] (cq_put h b (s, a, w)) = some (.inl (some (.ref b)), cq_put h b ((fun k => if 7 ≤ k then s' k else s k), (fun j => if 6 ≤ j ∧ j < 10 then cq_fl 6 (a' j) (a j) else a j), w)) := by
  have hc := fun C => cq_is_out (C := C) hd hc
  simp only [cq_is] at hc
  simp only [cr_168 jx_ns_r,  eb_168_0, jx_ns_r, jx_ns_n, jx_ns_q, jx_ns_i, jx_gl_0, jx_gl_s, if_true, if_false, ite_true, ite_false, eq_self, Bool.false_eq_true, List.length_cons, List.length_nil, Nat.zero_le, Nat.reduceAdd, Nat.reduceSub, Nat.reduceLeDiff, Nat.reduceLT, Nat.reduceEqDiff, Int.reduceToNat, reduceIte, xe_aload, jx_rv_r, jx_rv_n, jx_rv_q, xk_getf, jx_gf_i, jx_ov_s, ak_V, xk_putf, ak_P, jx_pf_i, jx_pf_z, jx_pf_l, jx_pf_r, jx_pf_n, jx_pf_q, Nat.reduceMod, Nat.reduceDiv, xe_iconst, xi_0, xx_0, xi_6, xx_6, xk_copy, xe_areturn_n, xe_areturn_r, cq_r, cq_f, hc, cq_s, cq_wo, cq_wr, cq_cp6, va_up_s, hb]
  refine congrArg (fun z => some (Sum.inl (some (Value.ref b)), z)) ?_
  rw [cq_sE (s' := fun k => if 7 ≤ k then s' k else s k) (by
    intro k hk
    simp only [va_up]
    by_cases q : 7 ≤ k
    · rw [if_pos q]
      rcases (by omega : k = 7 ∨ k = 8 ∨ k = 9 ∨ k = 10) with q | q | q | q <;> subst q <;> rfl
    · rw [if_neg q, if_neg (by omega), if_neg (by omega), if_neg (by omega), if_neg (by omega)])]
  refine cq_aE fun j hj => ?_
  simp only [va_up]
  by_cases q : 6 ≤ j ∧ j < 10
  · rw [if_pos q]
    rcases (by omega : j = 6 ∨ j = 7 ∨ j = 8 ∨ j = 9) with q | q | q | q <;> subst q <;> rfl
  · rw [if_neg q, if_neg (by omega), if_neg (by omega), if_neg (by omega), if_neg (by omega)]
theorem cq_copies (hb : 3 ≤ b) (hd : c + 13 ≤ b ∨ b + 13 ≤ c) (hc : cq_is h c s' a') : jx_cr (d + 2) 167 [.ref b, .ref c] (cq_put h b (s, a, w)) = some (.inl (some (.ref b)), cq_put h b (s', (fun j => cq_fl (cq_len j) (a' j) (a j)), w)) := by
  have hs := fun (d : Nat) s a => cq_standsAs (d := d) (s := s) (a := a) (w := w) hb hd hc
  have hc := fun C => cq_is_out (C := C) hd hc
  simp only [cq_is] at hc
  simp only [cr_167 jx_ns_r, eb_167_0, jx_ns_r, jx_ns_n, jx_ns_q, jx_ns_i, jx_gl_0, jx_gl_s, if_true, if_false, ite_true, ite_false, eq_self, Bool.false_eq_true, List.length_cons, List.length_nil, Nat.zero_le, Nat.reduceAdd, Nat.reduceSub, Nat.reduceLeDiff, Nat.reduceLT, Nat.reduceEqDiff, Int.reduceToNat, reduceIte, xe_aload, jx_rv_r, jx_rv_n, jx_rv_q, xk_getf, jx_gf_i, jx_ov_s, ak_V, xk_putf, ak_P, jx_pf_i, jx_pf_z, jx_pf_l, jx_pf_r, jx_pf_n, jx_pf_q, Nat.reduceMod, Nat.reduceDiv, xe_iconst, xi_0, xx_0, xi_6, xx_6, xk_copy, xi_12, xx_12, xi_20, xx_20, xi_560, xe_inv1, jx_cc_i, jx_cc_v, jx_cl9_i, xe_areturn_n, xe_areturn_r, cq_r, cq_f, hc, cq_s, cq_wo, cq_wr, cq_cp6, cq_cp12, cq_cp20, cq_cp560, va_up_s, hb, hs]
  refine congrArg (fun z => some (Sum.inl (some (Value.ref b)), z)) ?_
  rw [cq_sE (s' := s') (by
    intro k hk
    show (if 7 ≤ k then s' k else _) = s' k
    by_cases q : 7 ≤ k
    · rw [if_pos q]
    · rw [if_neg q]
      rcases (by omega : k = 0 ∨ k = 1 ∨ k = 2 ∨ k = 3 ∨ k = 4 ∨ k = 5 ∨ k = 6) with q | q | q | q | q | q | q <;> subst q <;> rfl)]
  refine cq_aE fun j hj => ?_
  rcases (by omega : j = 0 ∨ j = 1 ∨ j = 2 ∨ j = 3 ∨ j = 4 ∨ j = 5 ∨ j = 6 ∨ j = 7 ∨ j = 8 ∨ j = 9 ∨ j = 10) with q | q | q | q | q | q | q | q | q | q | q <;> subst q <;> rfl

def cq_bgn (a : Nat → Nat → Int32) (j : Nat) : Nat → Int32 := if j = 6 then cq_fl 6 (fun _ => 0) (a 6) else if j = 7 then cq_fl 6 (a 3) (a 7) else if j = 8 then cq_fl 6 (fun _ => 0) (a 8) else if j = 9 then cq_fl 6 (fun _ => 0) (a 9) else a j
def cq_bgs (s : Nat → Int32) (k : Nat) : Int32 := if k = 7 then 0 else if k = 8 then -1 else if k = 9 then -1 else if k = 10 then 0 else s k
theorem cq_begins : jx_cr (d + 1) 171 [.ref b] (cq_put h b (s, a, w)) = some (.inl none, cq_put h b (cq_bgs s, cq_bgn a, w)) := by
  have l2 : ∀ (s : Nat → Int32) (a : Nat → Nat → Int32) m t, t + m = 6 → jx_eb d 171 43 [.ref b, .int (nI t)] [] (cq_put h b (s, (fun j => if j = 7 then cq_fl t (a 3) (a 7) else if j = 8 then cq_fl t (fun _ => 0) (a 8) else if j = 9 then cq_fl t (fun _ => 0) (a 9) else a j), w)) = some (.inl none, cq_put h b (s, (fun j => if j = 7 then cq_fl 6 (a 3) (a 7) else if j = 8 then cq_fl 6 (fun _ => 0) (a 8) else if j = 9 then cq_fl 6 (fun _ => 0) (a 9) else a j), w)) := by
    intro s a m
    induction m with
    | zero =>
      intro t ht
      have : t = 6 := by omega
      subst this
      have e6 : (6 : Int32) ≤ nI 6 := by decide
      simp only [eb_171_0, eb_171_22, eb_171_41, eb_171_43, eb_171_81, jx_ns_r, jx_ns_n, jx_ns_q, jx_ns_i, jx_gl_0, jx_gl_s, if_true, if_false, ite_true, ite_false, eq_self, Bool.false_eq_true, List.length_cons, List.length_nil, Nat.zero_le, Nat.reduceAdd, Nat.reduceSub, Nat.reduceLeDiff, Nat.reduceLT, Nat.reduceEqDiff, Int.reduceToNat, reduceIte, xe_aload, jx_rv_r, jx_rv_n, jx_rv_q, xe_iconst, xi_0, xx_0, xk_putf, ak_P, jx_pf_i, jx_pf_z, jx_pf_l, jx_pf_r, jx_pf_n, jx_pf_q, Nat.reduceMod, Nat.reduceDiv, xi_m1, xe_istore, xe_goto_w, xk_iload, jx_iv_i, ak_I, xi_6, xx_6, xe_icmp_ge, xk_getf, jx_gf_i, jx_ov_s, ak_V, xk_iast, ja_is, ak_S, xk_iinc, ak_C, xi_1, xe_goto, xk_iald, ja_ia, ak_A, true_or, or_true, xe_return, jx_s1, List.set_cons_zero, List.set_cons_succ, jx_2_i, jx_2_l, jx_2_r, jx_2_n, jx_2_u, jx_2_s, jx_2_q, jx_k_i, jx_k_l, jx_k_r, jx_k_n, jx_k_u, jx_k_s, jx_k_q, e6]
    | succ m ih =>
      intro t ht
      have h2 : jx_ix (nI t) 6 = some t := by rw [jx_ix_n (by omega), if_pos (by omega)]
      have h3 : ¬ (6 : Int32) ≤ nI t := nI_ge (a := t) (b := 6) (by omega) (by omega)
      have ih := ih (t + 1) (by omega)
      rw [eb_171_43]
      simp only [eb_171_0, eb_171_22, eb_171_41, eb_171_81, jx_ns_r, jx_ns_n, jx_ns_q, jx_ns_i, jx_gl_0, jx_gl_s, if_true, if_false, ite_true, ite_false, eq_self, Bool.false_eq_true, List.length_cons, List.length_nil, Nat.zero_le, Nat.reduceAdd, Nat.reduceSub, Nat.reduceLeDiff, Nat.reduceLT, Nat.reduceEqDiff, Int.reduceToNat, reduceIte, xe_aload, jx_rv_r, jx_rv_n, jx_rv_q, xe_iconst, xi_0, xx_0, xk_putf, ak_P, jx_pf_i, jx_pf_z, jx_pf_l, jx_pf_r, jx_pf_n, jx_pf_q, Nat.reduceMod, Nat.reduceDiv, xi_m1, xe_istore, xe_goto_w, xk_iload, jx_iv_i, ak_I, xi_6, xx_6, xe_icmp_ge, xk_getf, jx_gf_i, jx_ov_s, ak_V, xk_iast, ja_is, ak_S, xk_iinc, ak_C, xi_1, xe_goto, xk_iald, ja_ia, ak_A, true_or, or_true, xe_return, jx_s1, List.set_cons_zero, List.set_cons_succ, jx_2_i, jx_2_l, jx_2_r, jx_2_n, jx_2_u, jx_2_s, jx_2_q, jx_k_i, jx_k_l, jx_k_r, jx_k_n, jx_k_u, jx_k_s, jx_k_q, cq_r, cq_f, h2, h3, cq_wr, nI_1]
      rw [← ih]
      refine congrArg (fun z => jx_eb d 171 43 [.ref b, .int (nI (t + 1))] [] z) (cq_aE fun j hj => ?_)
      simp only [va_up, ← cq_fl_s]
      by_cases q7 : j = 7
      · subst q7; rfl
      · by_cases q8 : j = 8
        · subst q8; rfl
        · by_cases q9 : j = 9
          · subst q9; rfl
          · simp only [q7, q8, q9, if_false]
  have l1 : ∀ (s : Nat → Int32) (a : Nat → Nat → Int32) m t, t + m = 6 → jx_eb d 171 22 [.ref b, .int (nI t)] [] (cq_put h b (s, (fun j => if j = 6 then cq_fl t (fun _ => 0) (a 6) else a j), w)) = some (.inl none, cq_put h b (s, cq_bgn a, w)) := by
    intro s a m
    induction m with
    | zero =>
      intro t ht
      have : t = 6 := by omega
      subst this
      have e6 : (6 : Int32) ≤ nI 6 := by decide
      have := l2 s (fun j => if j = 6 then cq_fl 6 (fun _ => 0) (a 6) else a j) 6 0 (by omega)
      simp only [nI_0, cq_fl_0] at this
      simp only [eb_171_22, eb_171_41, jx_ns_r, jx_ns_n, jx_ns_q, jx_ns_i, jx_gl_0, jx_gl_s, if_true, if_false, ite_true, ite_false, eq_self, Bool.false_eq_true, List.length_cons, List.length_nil, Nat.zero_le, Nat.reduceAdd, Nat.reduceSub, Nat.reduceLeDiff, Nat.reduceLT, Nat.reduceEqDiff, Int.reduceToNat, reduceIte, xe_aload, jx_rv_r, jx_rv_n, jx_rv_q, xe_iconst, xi_0, xx_0, xk_putf, ak_P, jx_pf_i, jx_pf_z, jx_pf_l, jx_pf_r, jx_pf_n, jx_pf_q, Nat.reduceMod, Nat.reduceDiv, xi_m1, xe_istore, xe_goto_w, xk_iload, jx_iv_i, ak_I, xi_6, xx_6, xe_icmp_ge, xk_getf, jx_gf_i, jx_ov_s, ak_V, xk_iast, ja_is, ak_S, xk_iinc, ak_C, xi_1, xe_goto, xk_iald, ja_ia, ak_A, true_or, or_true, xe_return, jx_s1, List.set_cons_zero, List.set_cons_succ, jx_2_i, jx_2_l, jx_2_r, jx_2_n, jx_2_u, jx_2_s, jx_2_q, jx_k_i, jx_k_l, jx_k_r, jx_k_n, jx_k_u, jx_k_s, jx_k_q, e6]
      refine Eq.trans (congrArg (fun z => jx_eb d 171 43 [.ref b, .int 0] [] z) (cq_aE fun j hj => ?_)) (this.trans (congrArg (fun z => some (Sum.inl none, z)) (cq_aE fun j hj => ?_)))
      · by_cases q7 : j = 7
        · subst q7; rfl
        · by_cases q8 : j = 8
          · subst q8; rfl
          · by_cases q9 : j = 9
            · subst q9; rfl
            · simp only [q7, q8, q9, if_false]
      · simp only [cq_bgn]
        by_cases q6 : j = 6
        · subst q6; rfl
        · by_cases q7 : j = 7
          · subst q7; rfl
          · by_cases q8 : j = 8
            · subst q8; rfl
            · by_cases q9 : j = 9
              · subst q9; rfl
              · simp only [q6, q7, q8, q9, if_false]
    | succ m ih =>
      intro t ht
      have h2 : jx_ix (nI t) 6 = some t := by rw [jx_ix_n (by omega), if_pos (by omega)]
      have h3 : ¬ (6 : Int32) ≤ nI t := nI_ge (a := t) (b := 6) (by omega) (by omega)
      have ih := ih (t + 1) (by omega)
      rw [eb_171_22]
      simp only [jx_ns_r, jx_ns_n, jx_ns_q, jx_ns_i, jx_gl_0, jx_gl_s, if_true, if_false, ite_true, ite_false, eq_self, Bool.false_eq_true, List.length_cons, List.length_nil, Nat.zero_le, Nat.reduceAdd, Nat.reduceSub, Nat.reduceLeDiff, Nat.reduceLT, Nat.reduceEqDiff, Int.reduceToNat, reduceIte, xe_aload, jx_rv_r, jx_rv_n, jx_rv_q, xe_iconst, xi_0, xx_0, xk_putf, ak_P, jx_pf_i, jx_pf_z, jx_pf_l, jx_pf_r, jx_pf_n, jx_pf_q, Nat.reduceMod, Nat.reduceDiv, xi_m1, xe_istore, xe_goto_w, xk_iload, jx_iv_i, ak_I, xi_6, xx_6, xe_icmp_ge, xk_getf, jx_gf_i, jx_ov_s, ak_V, xk_iast, ja_is, ak_S, xk_iinc, ak_C, xi_1, xe_goto, xk_iald, ja_ia, ak_A, true_or, or_true, xe_return, jx_s1, List.set_cons_zero, List.set_cons_succ, jx_2_i, jx_2_l, jx_2_r, jx_2_n, jx_2_u, jx_2_s, jx_2_q, jx_k_i, jx_k_l, jx_k_r, jx_k_n, jx_k_u, jx_k_s, jx_k_q, cq_r, cq_f, h2, h3, cq_wr, nI_1]
      rw [← ih]
      refine congrArg (fun z => jx_eb d 171 22 [.ref b, .int (nI (t + 1))] [] z) (cq_aE fun j hj => ?_)
      simp only [va_up, ← cq_fl_s]
      by_cases q7 : j = 6
      · subst q7; rfl
      · simp only [q7, if_false]
  have := l1 (cq_bgs s) a 6 0 (by omega)
  simp only [nI_0, cq_fl_0] at this
  simp only [cr_171, eb_171_0, jx_ns_r, jx_ns_n, jx_ns_q, jx_ns_i, jx_gl_0, jx_gl_s, if_true, if_false, ite_true, ite_false, eq_self, Bool.false_eq_true, List.length_cons, List.length_nil, Nat.zero_le, Nat.reduceAdd, Nat.reduceSub, Nat.reduceLeDiff, Nat.reduceLT, Nat.reduceEqDiff, Int.reduceToNat, reduceIte, xe_aload, jx_rv_r, jx_rv_n, jx_rv_q, xe_iconst, xi_0, xx_0, xk_putf, ak_P, jx_pf_i, jx_pf_z, jx_pf_l, jx_pf_r, jx_pf_n, jx_pf_q, Nat.reduceMod, Nat.reduceDiv, xi_m1, xe_istore, xe_goto_w, xk_iload, jx_iv_i, ak_I, xi_6, xx_6, xe_icmp_ge, xk_getf, jx_gf_i, jx_ov_s, ak_V, xk_iast, ja_is, ak_S, xk_iinc, ak_C, xi_1, xe_goto, xk_iald, ja_ia, ak_A, true_or, or_true, xe_return, jx_s1, List.set_cons_zero, List.set_cons_succ, jx_2_i, jx_2_l, jx_2_r, jx_2_n, jx_2_u, jx_2_s, jx_2_q, jx_k_i, jx_k_l, jx_k_r, jx_k_n, jx_k_u, jx_k_s, jx_k_q, cq_r, cq_f, cq_s, cq_wo]
  rw [← this]
  refine congrArg (fun z => jx_eb d 171 22 [.ref b, .int 0] [] z) ?_
  rw [cq_sE (s' := cq_bgs s) (by
    intro k hk
    simp only [va_up, cq_bgs]
    by_cases q7 : k = 7
    · subst q7; rfl
    · by_cases q8 : k = 8
      · subst q8; rfl
      · by_cases q9 : k = 9
        · subst q9; rfl
        · by_cases q10 : k = 10
          · subst q10; rfl
          · simp only [q7, q8, q9, q10, if_false])]
  refine cq_aE fun j hj => ?_
  by_cases q7 : j = 6
  · subst q7; rfl
  · simp only [q7, if_false]
end CM
