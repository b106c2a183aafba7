/-! court: sumOf, inHand, passes, goesOn -/
set_option maxRecDepth 100000
/-- how many are owed -/
def cq_du (T : Nat → Int32) (o : Int32) : Nat → Int32
  | 0 => 0
  | n + 1 => cq_du T o n + (if T n < o then 0 else 1)
/-- the most thanks -/
def cq_mo (T : Nat → Int32) : Nat → Int32
  | 0 => 0
  | n + 1 => if cq_mo T n < T n then T n else cq_mo T n
/-- the twelve words a law reads: pm people, the day's m, the thing t -/
def cq_wd (s : Nat → Int32) (a : Nat → Nat → Int32) (pm m t : Nat) (i : Nat) : Int64 :=
  if i = 0 then (nI t).toInt64 else if i = 1 then (a 0 t).toInt64 else if i = 2 then (nI m).toInt64 else if i = 3 then (if a 1 m = nI t then 1 else 0) else if i = 4 then (if s 8 = nI t then 1 else 0) else if i = 5 then (a 6 t).toInt64 else if i = 6 then (cq_ti (a 8) (nI t) pm).toInt64 else if i = 7 then (cq_du (a 7) (s 1) pm).toInt64 else if i = 8 then (cq_bc (cq_kn (a 8) pm)).toInt64 else if i = 9 then (cq_mo (a 7) pm).toInt64 else if i = 10 then (nI pm).toInt64 else (s 7).toInt64
/-- a law that is there: what the rule's heap cell means -/
def cq_law (D r b : Nat) (h : jx_H) (L : (Nat → Int64) → Int64) : Prop :=
  3 ≤ r ∧ (∃ fs, ∀ C, (cq_put h b C).1 r = .inr (5, fs)) ∧ (∀ w w', (∀ i, i < 12 → w i = w' i) → L w = L w') ∧ ∀ d C, jx_cr (d + D) 191 [.ref r, .ref (b + 12)] (cq_put h b C) = some (.inl (some (.long (L C.2.2))), cq_put h b C)
theorem cq_wdE {s : Nat → Int32} {a : Nat → Nat → Int32} {pm m t i : Nat} {w : Nat → Int64} (hi : i < 12) : cq_wd s a pm m t i = vp_updL (vp_updL (vp_updL (vp_updL (vp_updL (vp_updL (vp_updL (vp_updL (vp_updL (vp_updL (vp_updL (vp_updL w 0 (nI t).toInt64) 1 (a 0 t).toInt64) 2 (nI m).toInt64) 3 (if a 1 m = nI t then 1 else 0)) 4 (if s 8 = nI t then 1 else 0)) 5 (a 6 t).toInt64) 6 (cq_ti (a 8) (nI t) pm).toInt64) 7 (cq_du (a 7) (s 1) pm).toInt64) 8 (cq_bc (cq_kn (a 8) pm)).toInt64) 9 (cq_mo (a 7) pm).toInt64) 10 (nI pm).toInt64) 11 (s 7).toInt64 i := by
  rcases (by omega : i = 0 ∨ i = 1 ∨ i = 2 ∨ i = 3 ∨ i = 4 ∨ i = 5 ∨ i = 6 ∨ i = 7 ∨ i = 8 ∨ i = 9 ∨ i = 10 ∨ i = 11) with q | q | q | q | q | q | q | q | q | q | q | q <;> subst q <;> simp only [cq_wd, vp_updL, reduceIte, Nat.reduceEqDiff, Nat.succ_ne_self, if_true, if_false]
section CP
variable {d D : Nat} {h : jx_H} {b r pm tm m t : Nat} {s : Nat → Int32} {a : Nat → Nat → Int32} {w : Nat → Int64} {L : (Nat → Int64) → Int64}
theorem cq_sumOf (hpm : pm ≤ 6) (es : s 3 = nI pm) (ht : t < 6) (h0 : ¬ s 0 = 0) (hm : m < 12) (em : s 7 - s 7 / s 0 * s 0 = nI m) (hL : cq_law (D + 2) r b h L) :
    ∃ w', jx_cr (d + D + 3) 177 [.ref b, .int (nI t), .ref r] (cq_put h b (s, a, w)) = some (.inl (some (.long (L (cq_wd s a pm m t)))), cq_put h b (s, a, w')) := by
  have iT : jx_ix (nI t) 6 = some t := by rw [jx_ix_n (by omega), if_pos (by omega)]
  have iM : jx_ix (nI m) 12 = some m := by rw [jx_ix_n (by omega), if_pos (by omega)]
  obtain ⟨hr, ⟨fs, hC⟩, hE, hS⟩ := hL
  refine ⟨vp_updL (vp_updL (vp_updL (vp_updL (vp_updL (vp_updL (vp_updL (vp_updL (vp_updL (vp_updL (vp_updL (vp_updL w 0 (nI t).toInt64) 1 (a 0 t).toInt64) 2 (nI m).toInt64) 3 (if a 1 m = nI t then 1 else 0)) 4 (if s 8 = nI t then 1 else 0)) 5 (a 6 t).toInt64) 6 (cq_ti (a 8) (nI t) pm).toInt64) 7 (cq_du (a 7) (s 1) pm).toInt64) 8 (cq_bc (cq_kn (a 8) pm)).toInt64) 9 (cq_mo (a 7) pm).toInt64) 10 (nI pm).toInt64) 11 (s 7).toInt64, ?_⟩
  have hS : ∀ s a w, jx_cr (d + D + 2) 191 [.ref r, .ref (b + 12)] (cq_put h b (s, a, w)) = some (.inl (some (.long (L w))), cq_put h b (s, a, w)) := by
    intro s a w
    have := hS d (s, a, w)
    rwa [← Nat.add_assoc] at this
  have hT := fun w => cq_titled (d := d + D) (h := h) (b := b) (a := a) (w := w) (t := nI t) hpm es
  have hK := fun w => cq_knights (d := d + D + 1) (h := h) (b := b) (a := a) (w := w) hpm es
  have hB := fun x w => cq_bitCount (d := d + D + 1) (x := x) (h := cq_put h b (s, a, w))
  have fin : jx_eb (d + D + 2) 177 59 [.ref b, .int (nI t), .ref r, .int (cq_du (a 7) (s 1) pm), .int (cq_mo (a 7) pm), .int (nI pm)] [] (cq_put h b (s, a, w)) = some (.inl (some (.long (L (cq_wd s a pm m t)))), cq_put h b (s, a, vp_updL (vp_updL (vp_updL (vp_updL (vp_updL (vp_updL (vp_updL (vp_updL (vp_updL (vp_updL (vp_updL (vp_updL w 0 (nI t).toInt64) 1 (a 0 t).toInt64) 2 (nI m).toInt64) 3 (if a 1 m = nI t then 1 else 0)) 4 (if s 8 = nI t then 1 else 0)) 5 (a 6 t).toInt64) 6 (cq_ti (a 8) (nI t) pm).toInt64) 7 (cq_du (a 7) (s 1) pm).toInt64) 8 (cq_bc (cq_kn (a 8) pm)).toInt64) 9 (cq_mo (a 7) pm).toInt64) 10 (nI pm).toInt64) 11 (s 7).toInt64)) := by
    rw [hE (cq_wd s a pm m t) (vp_updL (vp_updL (vp_updL (vp_updL (vp_updL (vp_updL (vp_updL (vp_updL (vp_updL (vp_updL (vp_updL (vp_updL w 0 (nI t).toInt64) 1 (a 0 t).toInt64) 2 (nI m).toInt64) 3 (if a 1 m = nI t then 1 else 0)) 4 (if s 8 = nI t then 1 else 0)) 5 (a 6 t).toInt64) 6 (cq_ti (a 8) (nI t) pm).toInt64) 7 (cq_du (a 7) (s 1) pm).toInt64) 8 (cq_bc (cq_kn (a 8) pm)).toInt64) 9 (cq_mo (a 7) pm).toInt64) 10 (nI pm).toInt64) 11 (s 7).toInt64) (by
      intro i hi
      exact cq_wdE hi)]
    have h00 : (s 0 = 0) = False := eq_false h0
    by_cases q1 : a 1 m = nI t <;> by_cases q2 : s 8 = nI t <;> simp only [eb_177_59, eb_177_123, eb_177_124, eb_177_142, eb_177_143, jx_ns_r, jx_ns_n, jx_ns_q, jx_ns_i, jx_gl_0, jx_gl_s, if_true, if_false, ite_true, ite_false, eq_self, Bool.false_eq_true, List.length_cons, List.length_nil, Nat.zero_le, Nat.reduceAdd, Nat.reduceSub, Nat.reduceLeDiff, Nat.reduceLT, Nat.reduceEqDiff, Int.reduceToNat, reduceIte, xe_iconst, xi_0, xx_0, xe_istore, xe_goto_w, xk_iload, jx_iv_i, ak_I, xe_aload, jx_rv_r, jx_rv_n, jx_rv_q, xk_getf, jx_gf_i, jx_ov_s, ak_V, xe_icmp_ge, xk_iald, ja_ia, ak_A, true_or, or_true, xe_icmp_lt, xi_1, xx_1, xe_goto, xe_iadd, xe_max, xk_iinc, ak_C, xe_i2l, xk_last, ja_js, ak_J, ak_P, xi_2, xx_2, xe_irem, xi_3, xx_3, xe_icmp_ne, xe_lconst, xl_1, xl_0, xi_4, xx_4, xi_5, xx_5, xi_6, xx_6, xe_inv1, jx_cc_i, jx_cc_v, Nat.reduceMod, Nat.reduceDiv, jx_cl9_i, xi_7, xx_7, xi_8, xx_8, xe_inv0, xe_sta1, xi_9, xx_9, xi_10, xx_10, xi_11, xx_11, xe_lreturn, jx_s1, List.set_cons_zero, List.set_cons_succ, jx_2_i, jx_2_l, jx_2_r, jx_2_n, jx_2_u, jx_2_s, jx_2_q, jx_k_i, jx_k_l, jx_k_r, jx_k_n, jx_k_u, jx_k_s, jx_k_q, cq_r, cq_f, h00, em, iT, iM, q1, q2, es, cq_ww, hT, hK, hB, hC, hS]
  have loop : ∀ n p, p + n = pm → jx_eb (d + D + 2) 177 8 [.ref b, .int (nI t), .ref r, .int (cq_du (a 7) (s 1) p), .int (cq_mo (a 7) p), .int (nI p)] [] (cq_put h b (s, a, w)) = jx_eb (d + D + 2) 177 59 [.ref b, .int (nI t), .ref r, .int (cq_du (a 7) (s 1) pm), .int (cq_mo (a 7) pm), .int (nI pm)] [] (cq_put h b (s, a, w)) := by
    intro n
    induction n with
    | zero =>
      intro p hp
      have : p = pm := by omega
      subst this
      simp only [eb_177_8, jx_ns_r, jx_ns_n, jx_ns_q, jx_ns_i, jx_gl_0, jx_gl_s, if_true, if_false, ite_true, ite_false, eq_self, Bool.false_eq_true, List.length_cons, List.length_nil, Nat.zero_le, Nat.reduceAdd, Nat.reduceSub, Nat.reduceLeDiff, Nat.reduceLT, Nat.reduceEqDiff, Int.reduceToNat, reduceIte, xe_iconst, xi_0, xx_0, xe_istore, xe_goto_w, xk_iload, jx_iv_i, ak_I, xe_aload, jx_rv_r, jx_rv_n, jx_rv_q, xk_getf, jx_gf_i, jx_ov_s, ak_V, xe_icmp_ge, xk_iald, ja_ia, ak_A, true_or, or_true, xe_icmp_lt, xi_1, xx_1, xe_goto, xe_iadd, xe_max, xk_iinc, ak_C, xe_i2l, xk_last, ja_js, ak_J, ak_P, xi_2, xx_2, xe_irem, xi_3, xx_3, xe_icmp_ne, xe_lconst, xl_1, xl_0, xi_4, xx_4, xi_5, xx_5, xi_6, xx_6, xe_inv1, jx_cc_i, jx_cc_v, Nat.reduceMod, Nat.reduceDiv, jx_cl9_i, xi_7, xx_7, xi_8, xx_8, xe_inv0, xe_sta1, xi_9, xx_9, xi_10, xx_10, xi_11, xx_11, xe_lreturn, jx_s1, List.set_cons_zero, List.set_cons_succ, jx_2_i, jx_2_l, jx_2_r, jx_2_n, jx_2_u, jx_2_s, jx_2_q, jx_k_i, jx_k_l, jx_k_r, jx_k_n, jx_k_u, jx_k_s, jx_k_q, cq_r, cq_f, es, nI_leI (show p < 2 ^ 31 by omega) (show p < 2 ^ 31 by omega), Nat.le_refl]
    | succ n ih =>
      intro p hp
      have h2 : jx_ix (nI p) 6 = some p := by rw [jx_ix_n (by omega), if_pos (by omega)]
      have h3 : ¬ nI pm ≤ nI p := nI_ge (by omega) (by omega)
      have ih := ih (p + 1) (by omega)
      simp only [cq_du, cq_mo, ← nI_1] at ih
      rw [eb_177_8]
      by_cases q : a 7 p < s 1
      · simp only [q, if_true] at ih
        simp only [eb_177_36, eb_177_37, jx_ns_r, jx_ns_n, jx_ns_q, jx_ns_i, jx_gl_0, jx_gl_s, if_true, if_false, ite_true, ite_false, eq_self, Bool.false_eq_true, List.length_cons, List.length_nil, Nat.zero_le, Nat.reduceAdd, Nat.reduceSub, Nat.reduceLeDiff, Nat.reduceLT, Nat.reduceEqDiff, Int.reduceToNat, reduceIte, xe_iconst, xi_0, xx_0, xe_istore, xe_goto_w, xk_iload, jx_iv_i, ak_I, xe_aload, jx_rv_r, jx_rv_n, jx_rv_q, xk_getf, jx_gf_i, jx_ov_s, ak_V, xe_icmp_ge, xk_iald, ja_ia, ak_A, true_or, or_true, xe_icmp_lt, xi_1, xx_1, xe_goto, xe_iadd, xe_max, xk_iinc, ak_C, xe_i2l, xk_last, ja_js, ak_J, ak_P, xi_2, xx_2, xe_irem, xi_3, xx_3, xe_icmp_ne, xe_lconst, xl_1, xl_0, xi_4, xx_4, xi_5, xx_5, xi_6, xx_6, xe_inv1, jx_cc_i, jx_cc_v, Nat.reduceMod, Nat.reduceDiv, jx_cl9_i, xi_7, xx_7, xi_8, xx_8, xe_inv0, xe_sta1, xi_9, xx_9, xi_10, xx_10, xi_11, xx_11, xe_lreturn, jx_s1, List.set_cons_zero, List.set_cons_succ, jx_2_i, jx_2_l, jx_2_r, jx_2_n, jx_2_u, jx_2_s, jx_2_q, jx_k_i, jx_k_l, jx_k_r, jx_k_n, jx_k_u, jx_k_s, jx_k_q, cq_r, cq_f, es, h2, h3, q]
        exact ih
      · simp only [q, if_false] at ih
        simp only [eb_177_36, eb_177_37, jx_ns_r, jx_ns_n, jx_ns_q, jx_ns_i, jx_gl_0, jx_gl_s, if_true, if_false, ite_true, ite_false, eq_self, Bool.false_eq_true, List.length_cons, List.length_nil, Nat.zero_le, Nat.reduceAdd, Nat.reduceSub, Nat.reduceLeDiff, Nat.reduceLT, Nat.reduceEqDiff, Int.reduceToNat, reduceIte, xe_iconst, xi_0, xx_0, xe_istore, xe_goto_w, xk_iload, jx_iv_i, ak_I, xe_aload, jx_rv_r, jx_rv_n, jx_rv_q, xk_getf, jx_gf_i, jx_ov_s, ak_V, xe_icmp_ge, xk_iald, ja_ia, ak_A, true_or, or_true, xe_icmp_lt, xi_1, xx_1, xe_goto, xe_iadd, xe_max, xk_iinc, ak_C, xe_i2l, xk_last, ja_js, ak_J, ak_P, xi_2, xx_2, xe_irem, xi_3, xx_3, xe_icmp_ne, xe_lconst, xl_1, xl_0, xi_4, xx_4, xi_5, xx_5, xi_6, xx_6, xe_inv1, jx_cc_i, jx_cc_v, Nat.reduceMod, Nat.reduceDiv, jx_cl9_i, xi_7, xx_7, xi_8, xx_8, xe_inv0, xe_sta1, xi_9, xx_9, xi_10, xx_10, xi_11, xx_11, xe_lreturn, jx_s1, List.set_cons_zero, List.set_cons_succ, jx_2_i, jx_2_l, jx_2_r, jx_2_n, jx_2_u, jx_2_s, jx_2_q, jx_k_i, jx_k_l, jx_k_r, jx_k_n, jx_k_u, jx_k_s, jx_k_q, cq_r, cq_f, es, h2, h3, q]
        exact ih
  have := (loop pm 0 (by omega)).trans fin
  simp only [cq_du, cq_mo, nI_0] at this
  simp only [cr_177 jx_ns_r, eb_177_0, jx_ns_r, jx_ns_n, jx_ns_q, jx_ns_i, jx_gl_0, jx_gl_s, if_true, if_false, ite_true, ite_false, eq_self, Bool.false_eq_true, List.length_cons, List.length_nil, Nat.zero_le, Nat.reduceAdd, Nat.reduceSub, Nat.reduceLeDiff, Nat.reduceLT, Nat.reduceEqDiff, Int.reduceToNat, reduceIte, xe_iconst, xi_0, xx_0, xe_istore, xe_goto_w, xk_iload, jx_iv_i, ak_I, xe_aload, jx_rv_r, jx_rv_n, jx_rv_q, xk_getf, jx_gf_i, jx_ov_s, ak_V, xe_icmp_ge, xk_iald, ja_ia, ak_A, true_or, or_true, xe_icmp_lt, xi_1, xx_1, xe_goto, xe_iadd, xe_max, xk_iinc, ak_C, xe_i2l, xk_last, ja_js, ak_J, ak_P, xi_2, xx_2, xe_irem, xi_3, xx_3, xe_icmp_ne, xe_lconst, xl_1, xl_0, xi_4, xx_4, xi_5, xx_5, xi_6, xx_6, xe_inv1, jx_cc_i, jx_cc_v, Nat.reduceMod, Nat.reduceDiv, jx_cl9_i, xi_7, xx_7, xi_8, xx_8, xe_inv0, xe_sta1, xi_9, xx_9, xi_10, xx_10, xi_11, xx_11, xe_lreturn, jx_s1, List.set_cons_zero, List.set_cons_succ, jx_2_i, jx_2_l, jx_2_r, jx_2_n, jx_2_u, jx_2_s, jx_2_q, jx_k_i, jx_k_l, jx_k_r, jx_k_n, jx_k_u, jx_k_s, jx_k_q]
  exact this
/-- the best thing by a law, strictly better than all before: (thing, sum) -/
def cq_bst (f : Nat → Int64) : Nat → Int32 × Int64
  | 0 => (-1, 0)
  | n + 1 => if (cq_bst f n).2 < f n then (nI n, f n) else cq_bst f n
def cq_ih (s : Nat → Int32) (a : Nat → Nat → Int32) (L : Option ((Nat → Int64) → Int64)) (tm pm m : Nat) : Int32 :=
  if 0 < s 10 then -1 else if s 9 = -1 then (match L with | none => a 1 m | some L => (cq_bst (fun t => L (cq_wd s a pm m t)) tm).1) else s 9
theorem cq_inHand0 (h0 : ¬ s 0 = 0) (hm : m < 12) (em : s 7 - s 7 / s 0 * s 0 = nI m) : jx_cr (d + 1) 178 [.ref b, .null] (cq_put h b (s, a, w)) = some (.inl (some (.int (cq_ih s a none tm pm m))), cq_put h b (s, a, w)) := by
  have iM : jx_ix (nI m) 12 = some m := by rw [jx_ix_n (by omega), if_pos (by omega)]
  have h00 : (s 0 = 0) = False := eq_false h0
  have hle : s 10 ≤ 0 ↔ ¬ 0 < s 10 := Int32.not_lt.symm
  simp only [cr_178 jx_ns_n, eb_178_0, eb_178_9, eb_178_22, eb_178_41, jx_ns_r, jx_ns_n, jx_ns_q, jx_ns_i, jx_gl_0, jx_gl_s, if_true, if_false, ite_true, ite_false, eq_self, Bool.false_eq_true, List.length_cons, List.length_nil, Nat.zero_le, Nat.reduceAdd, Nat.reduceSub, Nat.reduceLeDiff, Nat.reduceLT, Nat.reduceEqDiff, Int.reduceToNat, reduceIte, xe_aload, jx_rv_r, jx_rv_n, jx_rv_q, xk_getf, jx_gf_i, jx_ov_s, ak_V, xe_ifle, xe_iconst, xi_m1, xe_ireturn, xe_icmp_eq, xe_ifnonnull_n, xe_ifnonnull_r, xe_irem, xk_iald, ja_ia, ak_A, ak_I, true_or, or_true, xe_istore, xe_lconst, xl_0, xe_lstore, jx_s2, xi_0, xx_0, xe_goto_w, xk_iload, jx_iv_i, xe_icmp_ge, xe_inv2, jx_cc_i, jx_cc_v, Nat.reduceMod, Nat.reduceDiv, jx_cl9_i, xk_lload, jx_lv_l, ak_L, xe_lcmp, xe_ifgt, xe_goto, xk_iinc, ak_C, xi_1, jx_s1, List.set_cons_zero, List.set_cons_succ, jx_2_i, jx_2_l, jx_2_r, jx_2_n, jx_2_u, jx_2_s, jx_2_q, jx_k_i, jx_k_l, jx_k_r, jx_k_n, jx_k_u, jx_k_s, jx_k_q, cq_r, cq_f, h00, em, iM, cq_ih, hle]
  by_cases q1 : 0 < s 10 <;> by_cases q2 : s 9 = -1 <;> simp only [q1, q2, not_true, not_false_eq_true, if_true, if_false]
end CP
