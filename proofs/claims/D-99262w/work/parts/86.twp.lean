/-! THE TWIN: look, years -/
set_option maxRecDepth 100000
theorem ai_0 {P : Nat → Bool} {f : Nat → Nat → Int32} {m tm n : Nat} (h : ∀ v, cN (fun k => P k && decide (f k n = v)) (m + 1) = 0) : sp_ai P f m tm n = 0 := by
  have : ∀ j, sp_mx (fun j => ct (fun k => P k && decide (f k n = nI j - 1)) (m + 1) 0) j = 0 := by
    intro j
    induction j with
    | zero => rfl
    | succ j ih =>
      rw [sp_mx, ih, cN_ct, h]
      rfl
  exact this _
theorem mo_pos {g : Nat → Int32} {c : Nat} (h0 : 0 < c) (hc : c ≤ 7) : ¬ tq_mo g c = 0 := by
  obtain ⟨M1, b1, e1, l1, x1⟩ := mx_c (f := fun i => ct (fun k => decide (g k = g i)) c 0) (F := fun i => cN (fun k => decide (g k = g i)) c) c (fun i hi => ⟨cN_ct c, by have := cN_le (P := fun k => decide (g k = g i)) c; omega⟩)
  rw [tq_mo, e1]
  have h2 := l1 0 h0
  have h3 := cN_pos (P := fun k => decide (g k = g 0)) (i := 0) c h0 (decide_eq_true rfl)
  exact nI_ne0 (by omega) (by omega)
section TP
variable {d : Nat} {h : jx_H} {s : Nat → Int32} {a : Nat → Nat → Int32} {E N : Nat → Int32} {Q : Nat → Nat → Int32} {W : Nat → Nat → Int64} {i k : Int32} {t u v tm pm day now D n m : Nat} {Lo : Option ((Nat → Int64) → Int64)}
variable {nm rm : Nat} {Lr : Nat → (Nat → Int64) → Int64} {c X um ls : Nat}
theorem sp_hk_pt {k n : Nat} (iv : cq_iv s a day tm pm now) (hn : n ≤ 100) : ∃ j, j ≤ tm ∧ sp_hk Lr s a k n = nI j - 1 := by
  have h8 := (cq_iv_gn (n := n + 1) (Lo := sp_lk Lr k) (cq_iv_bg iv) (by omega)).2.2.2.2.2.2.2.2.1
  rcases h8 with r | ⟨t, ht, r⟩
  · exact ⟨0, by omega, r.trans (by decide)⟩
  · refine ⟨t + 1, by omega, ?_⟩
    rw [nI_pred]
    exact r
theorem tm_look (h0 : 0 < s 0) (iv : cq_iv s a day tm pm now) (hN : sp_nt s a nm) (hR : tq_rs (D + 2) Q Lr rm) (e23 : N 23 = nI rm) (hk : 0 ≤ k.toInt64 ∧ k.toInt64 ≤ 1) :
    tq_fin h s a E N Q (jx_cr (d + D + 9) 150 [.ref 113, .int k] (tw h s a E N Q W)) (sp_lkv (sp_ai (sp_fit Lr s a nm) (sp_hk Lr s a) rm tm) k) := by
  have t6 := iv.2.2.2.2.1; have p6 := iv.2.2.2.2.2.2.1; have es := iv.2.2.2.2.2.1; have et := iv.2.2.2.1; have d12 := iv.2.2.1; have d1 := iv.2.1
  have hrm := hR.1
  obtain ⟨N1, Q1, hN1, hQ1, hK, e1⟩ := tq_keep (d := d + D + 5) (h := h) (s := s) (a := a) (E := E) (N := N) (Q := Q) (W := W)
  have n23 : N1 23 = nI rm := (hN1 23 (by omega) (by omega) (by omega) (by omega)).trans e23
  obtain ⟨a', N', Q', W', c, h1, h2, h3, hS, e2⟩ := tm_look1 (d := d) (h := h) (N := N1) (W := W) (k := k) h0 iv hN (tq_rs_Q hR (tq_qf_l hQ1)) n23 hK
  refine ⟨a', N', Q', W', h1, tq_nf_t hN1 h2, tq_qf_t hQ1 h3, ?_⟩
  have hc : c ≤ 7 := by have := hS.1; omega
  have start : jx_cr (d + D + 9) 150 [.ref 113, .int k] (tw h s a E N Q W) = jx_eb (d + D + 8) 150 87 [.ref 113, .int k, .int (nI c), .int (nI (rm + 1) - 1), (if c = 0 then jx_un else .int (nI 61))] [] (tw h s a' E N' Q' W') := by
    rw [← e2]
    simp only [cr_150, eb_150_0, eb_150_19, jx_ns_r, jx_ns_n, jx_ns_q, jx_ns_i, jx_gl_0, jx_gl_s, if_true, if_false, ite_true, ite_false, eq_self, Bool.false_eq_true, List.length_cons, List.length_nil, Nat.zero_le, Nat.reduceAdd, Nat.reduceSub, Nat.reduceLeDiff, Nat.reduceLT, Nat.reduceEqDiff, Int.reduceToNat, reduceIte, xe_aload, jx_rv_r, jx_rv_n, jx_rv_q, xe_inv0, jx_cc_i, jx_cc_v, Nat.reduceMod, Nat.reduceDiv, jx_cl9_i, xe_ifeq, xk_iload, jx_iv_i, ak_I, xe_i2l, xe_lconst, xl_0, xl_1, xe_sta3, xe_ifne, xe_goto_w, xe_iconst, xi_m1, xe_ireturn, xi_0, xx_0, xe_istore, xk_getf, jx_gf_i, jx_ov_s, ak_V, xe_icmp_ge, xe_inv1, xi_60, xe_icmp_gt, xi_61, xe_imul, xe_iadd, xk_iald, ja_ia, ak_A, true_or, or_true, xk_iast, ja_is, ak_S, ak_P, xk_iinc, ak_C, xi_1, xe_goto, xi_m2, xx_1, xe_inv2, jx_s1, List.set_cons_zero, List.set_cons_succ, jx_2_i, jx_2_l, jx_2_r, jx_2_n, jx_2_u, jx_2_s, jx_2_q, jx_k_i, jx_k_l, jx_k_r, jx_k_n, jx_k_u, jx_k_s, jx_k_q, tw_r, tw_f, tq_r, va_up_s, tm_isCourt, h0, tq_inL, hk, and_self, sp_10, e1]
  rw [start]
  rcases Nat.eq_zero_or_pos c with r | r
  · subst r
    have ai : ∀ n, n ≤ 60 → sp_ai (sp_fit Lr s a nm) (sp_hk Lr s a) rm tm n = 0 := fun n hn => ai_0 (fun v => (hS.2 n hn).1 v)
    have el : sp_lkv (sp_ai (sp_fit Lr s a nm) (sp_hk Lr s a) rm tm) k = -2 := by
      rw [sp_lkv, if_pos (ai _ (sp_lkb_le 60))]
    rw [el]
    simp only [eb_150_87, jx_ns_r, jx_ns_n, jx_ns_q, jx_ns_i, jx_gl_0, jx_gl_s, if_true, if_false, ite_true, ite_false, eq_self, Bool.false_eq_true, List.length_cons, List.length_nil, Nat.zero_le, Nat.reduceAdd, Nat.reduceSub, Nat.reduceLeDiff, Nat.reduceLT, Nat.reduceEqDiff, Int.reduceToNat, reduceIte, xe_aload, jx_rv_r, jx_rv_n, jx_rv_q, xe_inv0, jx_cc_i, jx_cc_v, Nat.reduceMod, Nat.reduceDiv, jx_cl9_i, xe_ifeq, xk_iload, jx_iv_i, ak_I, xe_i2l, xe_lconst, xl_0, xl_1, xe_sta3, xe_ifne, xe_goto_w, xe_iconst, xi_m1, xe_ireturn, xi_0, xx_0, xe_istore, xk_getf, jx_gf_i, jx_ov_s, ak_V, xe_icmp_ge, xe_inv1, xi_60, xe_icmp_gt, xi_61, xe_imul, xe_iadd, xk_iald, ja_ia, ak_A, true_or, or_true, xk_iast, ja_is, ak_S, ak_P, xk_iinc, ak_C, xi_1, xe_goto, xi_m2, xx_1, xe_inv2, jx_s1, List.set_cons_zero, List.set_cons_succ, jx_2_i, jx_2_l, jx_2_r, jx_2_n, jx_2_u, jx_2_s, jx_2_q, jx_k_i, jx_k_l, jx_k_r, jx_k_n, jx_k_u, jx_k_s, jx_k_q, nI_0]
  · have mo : ∀ n, n ≤ 60 → tq_mo (fun i => Q' 48 (61 * i + n)) c = sp_ai (sp_fit Lr s a nm) (sp_hk Lr s a) rm tm n := fun n hn => tq_mo_ai hc hrm (hS.2 n hn).1 (fun i hi => by
      obtain ⟨k', hk', e⟩ := (hS.2 n hn).2 i hi
      rw [e]
      exact sp_hk_pt iv (by omega))
    have hA := fun (d v : Nat) (hv : v ≤ 60) => (tm_mostAlike (d := d) (h := h) (s := s) (a := a') (E := E) (N := N') (Q := Q') (W := W') (v := v) (c := c) hv hc).trans (by rw [mo v hv])
    have hpos : ∀ n, n ≤ 60 → ¬ sp_ai (sp_fit Lr s a nm) (sp_hk Lr s a) rm tm n = 0 := fun n hn => by rw [← mo n hn]; exact mo_pos r hc
    generalize sp_ai (sp_fit Lr s a nm) (sp_hk Lr s a) rm tm = f at hA hpos
    have n0 : ¬ nI c = 0 := nI_ne0 r (by omega)
    have c0 : ¬ c = 0 := by omega
    have key := jx_lp (d := d + D + 8) (y := 150) (L := 99) (n := 60) (γ := Unit) (ls := fun m _ => [.ref 113, .int k, .int (nI c), .int (nI (sp_lkb f m)), .int (nI (m + 1))]) (H := fun _ _ => tw h s a' E N' Q' W')
      (I := fun _ _ => True)
      (G := fun r => r = some (.inl (some (.int (sp_lkv f k))), tw h s a' E N' Q' W')) ?_ ?_ 60 0 () (by omega) trivial
    · have e1 : nI (0 + 1) = 1 := rfl
      simp only [sp_lkb, nI_0, e1] at key
      simp only [eb_150_87, eb_150_94, jx_ns_r, jx_ns_n, jx_ns_q, jx_ns_i, jx_gl_0, jx_gl_s, if_true, if_false, ite_true, ite_false, eq_self, Bool.false_eq_true, List.length_cons, List.length_nil, Nat.zero_le, Nat.reduceAdd, Nat.reduceSub, Nat.reduceLeDiff, Nat.reduceLT, Nat.reduceEqDiff, Int.reduceToNat, reduceIte, xe_aload, jx_rv_r, jx_rv_n, jx_rv_q, xe_inv0, jx_cc_i, jx_cc_v, Nat.reduceMod, Nat.reduceDiv, jx_cl9_i, xe_ifeq, xk_iload, jx_iv_i, ak_I, xe_i2l, xe_lconst, xl_0, xl_1, xe_sta3, xe_ifne, xe_goto_w, xe_iconst, xi_m1, xe_ireturn, xi_0, xx_0, xe_istore, xk_getf, jx_gf_i, jx_ov_s, ak_V, xe_icmp_ge, xe_inv1, xi_60, xe_icmp_gt, xi_61, xe_imul, xe_iadd, xk_iald, ja_ia, ak_A, true_or, or_true, xk_iast, ja_is, ak_S, ak_P, xk_iinc, ak_C, xi_1, xe_goto, xi_m2, xx_1, xe_inv2, jx_s1, List.set_cons_zero, List.set_cons_succ, jx_2_i, jx_2_l, jx_2_r, jx_2_n, jx_2_u, jx_2_s, jx_2_q, jx_k_i, jx_k_l, jx_k_r, jx_k_n, jx_k_u, jx_k_s, jx_k_q, n0, if_neg c0]
      exact key
    · intro m _ hm _
      have h3 : ¬ (60 : Int32) < nI (m + 1) := nI_nlt (b := m + 1) (a := 60) (by omega) (by omega)
      have l := sp_lkb_le (f := f) m
      have h4 := fun d => hA d (m + 1) (by omega)
      have h5 := fun d => hA d (sp_lkb f m) (by omega)
      refine .inr ⟨(), trivial, ?_⟩
      rw [eb_150_99]
      by_cases r : f (m + 1) < f (sp_lkb f m)
      · have r' : ¬ f (sp_lkb f m) ≤ f (m + 1) := Int32.not_le.mpr r
        simp only [eb_150_128, jx_ns_r, jx_ns_n, jx_ns_q, jx_ns_i, jx_gl_0, jx_gl_s, if_true, if_false, ite_true, ite_false, eq_self, Bool.false_eq_true, List.length_cons, List.length_nil, Nat.zero_le, Nat.reduceAdd, Nat.reduceSub, Nat.reduceLeDiff, Nat.reduceLT, Nat.reduceEqDiff, Int.reduceToNat, reduceIte, xe_aload, jx_rv_r, jx_rv_n, jx_rv_q, xe_inv0, jx_cc_i, jx_cc_v, Nat.reduceMod, Nat.reduceDiv, jx_cl9_i, xe_ifeq, xk_iload, jx_iv_i, ak_I, xe_i2l, xe_lconst, xl_0, xl_1, xe_sta3, xe_ifne, xe_goto_w, xe_iconst, xi_m1, xe_ireturn, xi_0, xx_0, xe_istore, xk_getf, jx_gf_i, jx_ov_s, ak_V, xe_icmp_ge, xe_inv1, xi_60, xe_icmp_gt, xi_61, xe_imul, xe_iadd, xk_iald, ja_ia, ak_A, true_or, or_true, xk_iast, ja_is, ak_S, ak_P, xk_iinc, ak_C, xi_1, xe_goto, xi_m2, xx_1, xe_inv2, jx_s1, List.set_cons_zero, List.set_cons_succ, jx_2_i, jx_2_l, jx_2_r, jx_2_n, jx_2_u, jx_2_s, jx_2_q, jx_k_i, jx_k_l, jx_k_r, jx_k_n, jx_k_u, jx_k_s, jx_k_q, h3, tw_r, tw_f, tq_r, va_up_s, h4, h5, r, r', sp_lkb, nI_1]
      · have r' : f (sp_lkb f m) ≤ f (m + 1) := Int32.not_lt.mp r
        simp only [eb_150_127, eb_150_128, jx_ns_r, jx_ns_n, jx_ns_q, jx_ns_i, jx_gl_0, jx_gl_s, if_true, if_false, ite_true, ite_false, eq_self, Bool.false_eq_true, List.length_cons, List.length_nil, Nat.zero_le, Nat.reduceAdd, Nat.reduceSub, Nat.reduceLeDiff, Nat.reduceLT, Nat.reduceEqDiff, Int.reduceToNat, reduceIte, xe_aload, jx_rv_r, jx_rv_n, jx_rv_q, xe_inv0, jx_cc_i, jx_cc_v, Nat.reduceMod, Nat.reduceDiv, jx_cl9_i, xe_ifeq, xk_iload, jx_iv_i, ak_I, xe_i2l, xe_lconst, xl_0, xl_1, xe_sta3, xe_ifne, xe_goto_w, xe_iconst, xi_m1, xe_ireturn, xi_0, xx_0, xe_istore, xk_getf, jx_gf_i, jx_ov_s, ak_V, xe_icmp_ge, xe_inv1, xi_60, xe_icmp_gt, xi_61, xe_imul, xe_iadd, xk_iald, ja_ia, ak_A, true_or, or_true, xk_iast, ja_is, ak_S, ak_P, xk_iinc, ak_C, xi_1, xe_goto, xi_m2, xx_1, xe_inv2, jx_s1, List.set_cons_zero, List.set_cons_succ, jx_2_i, jx_2_l, jx_2_r, jx_2_n, jx_2_u, jx_2_s, jx_2_q, jx_k_i, jx_k_l, jx_k_r, jx_k_n, jx_k_u, jx_k_s, jx_k_q, h3, tw_r, tw_f, tq_r, va_up_s, h4, h5, r, r', sp_lkb, nI_1]
    · intro _ _
      have h3 : (60 : Int32) < nI (60 + 1) := by decide
      have l := sp_lkb_le (f := f) 60
      have h5 := fun d => hA d (sp_lkb f 60) l
      have hp := hpos _ l
      by_cases r2 : k = 0 <;> simp only [eb_150_99, eb_150_135, eb_150_143, eb_150_149, jx_ns_r, jx_ns_n, jx_ns_q, jx_ns_i, jx_gl_0, jx_gl_s, if_true, if_false, ite_true, ite_false, eq_self, Bool.false_eq_true, List.length_cons, List.length_nil, Nat.zero_le, Nat.reduceAdd, Nat.reduceSub, Nat.reduceLeDiff, Nat.reduceLT, Nat.reduceEqDiff, Int.reduceToNat, reduceIte, xe_aload, jx_rv_r, jx_rv_n, jx_rv_q, xe_inv0, jx_cc_i, jx_cc_v, Nat.reduceMod, Nat.reduceDiv, jx_cl9_i, xe_ifeq, xk_iload, jx_iv_i, ak_I, xe_i2l, xe_lconst, xl_0, xl_1, xe_sta3, xe_ifne, xe_goto_w, xe_iconst, xi_m1, xe_ireturn, xi_0, xx_0, xe_istore, xk_getf, jx_gf_i, jx_ov_s, ak_V, xe_icmp_ge, xe_inv1, xi_60, xe_icmp_gt, xi_61, xe_imul, xe_iadd, xk_iald, ja_ia, ak_A, true_or, or_true, xk_iast, ja_is, ak_S, ak_P, xk_iinc, ak_C, xi_1, xe_goto, xi_m2, xx_1, xe_inv2, jx_s1, List.set_cons_zero, List.set_cons_succ, jx_2_i, jx_2_l, jx_2_r, jx_2_n, jx_2_u, jx_2_s, jx_2_q, jx_k_i, jx_k_l, jx_k_r, jx_k_n, jx_k_u, jx_k_s, jx_k_q, h3, tw_r, tw_f, tq_r, va_up_s, h5, hp, r2, sp_lkv]
theorem tm_draws (hX : X < 2 ^ 31) (eX : E 0 = nI X) {m : Nat} (hm0 : 0 < m) (hm : m ≤ 100) : jx_cr (d + 1) 152 [.ref 113, .int (nI m)] (tw h s a E N Q W) = some (.inl (some (.int (nI (sp_dr X m)))), tw h s a (va_up E 0 (nI (sp_dx X))) N Q W) := by
  have e1 := sp_dxe hX
  have e2 := sp_dre (n := X) hm0 (by omega)
  have n0 : ¬ nI m = 0 := nI_ne0 hm0 (by omega)
  have n1 : ¬ (65536 : Int32) = 0 := by decide
  have n2 : ¬ (2147483648 : Int64) = 0 := by decide
  simp only [cr_152, eb_152_0, jx_ns_r, jx_ns_n, jx_ns_q, jx_ns_i, jx_gl_0, jx_gl_s, if_true, if_false, ite_true, ite_false, eq_self, Bool.false_eq_true, List.length_cons, List.length_nil, Nat.zero_le, Nat.reduceAdd, Nat.reduceSub, Nat.reduceLeDiff, Nat.reduceLT, Nat.reduceEqDiff, Int.reduceToNat, reduceIte, xe_aload, jx_rv_r, jx_rv_n, jx_rv_q, xk_getf, jx_gf_i, jx_ov_s, ak_V, xe_iconst, xi_9, xx_9, xk_iald, ja_ia, ak_A, ak_I, true_or, or_true, xe_i2l, xe_lconst, xl_1103515245, xe_lmul, xl_12345, xe_ladd, xl_2147483648, xe_lrem, xe_l2i, xk_iast, ja_is, ak_S, ak_P, xi_65536, xe_idiv, xk_iload, jx_iv_i, xe_irem, xe_ireturn, tw_r, tw_f, tw_s, tq_r, tq_w, tw_wo, tw_wsc, tq_ile_u, tq_ilo_u, va_up_s, tw_w2, tw_w3, tw_w4, tw_w5, tw_w6, tw_w7, tw_w8, tw_w9, tw_w10, tw_w11, tw_w12, tw_w13, tw_w14, tw_w15, tw_w16, tw_w17, tw_w18, tw_w29, tw_w30, tw_w31, tw_w32, tw_w33, tw_w34, tw_w35, tw_w36, tw_w37, tw_w38, tw_w39, tw_w40, tw_w44, tw_w45, tw_w46, tw_w47, tw_w48, tw_w49, tw_w50, eX, n0, n1, n2, e1, reduceIte, e2]
theorem tm_years0 {j l : Int32} (hq : ¬ (0 < s 0 ∧ (1 ≤ j.toInt64 ∧ j.toInt64 ≤ 10) ∧ (1 ≤ l.toInt64 ∧ l.toInt64 ≤ 60) ∧ (0 ≤ i.toInt64 ∧ i.toInt64 ≤ 100) ∧ 0 ≤ k.toInt64 ∧ k.toInt64 ≤ 1)) : jx_cr (d + 2) 154 [.ref 113, .int j, .int l, .int i, .int k] (tw h s a E N Q W) = some (.inl (some (.int (-1))), (tw h s a E N Q W)) := by
  by_cases q0 : 0 < s 0
  · by_cases q1 : 1 ≤ j.toInt64 ∧ j.toInt64 ≤ 10
    · by_cases q2 : 1 ≤ l.toInt64 ∧ l.toInt64 ≤ 60
      · by_cases q3 : 0 ≤ i.toInt64 ∧ i.toInt64 ≤ 100
        · have q4 : ¬ (0 ≤ k.toInt64 ∧ k.toInt64 ≤ 1) := fun r => hq ⟨q0, q1, q2, q3, r⟩
          simp only [cr_154, eb_154_0, eb_154_54, jx_ns_r, jx_ns_n, jx_ns_q, jx_ns_i, jx_gl_0, jx_gl_s, if_true, if_false, ite_true, ite_false, eq_self, Bool.false_eq_true, List.length_cons, List.length_nil, Nat.zero_le, Nat.reduceAdd, Nat.reduceSub, Nat.reduceLeDiff, Nat.reduceLT, Nat.reduceEqDiff, Int.reduceToNat, reduceIte, xe_aload, jx_rv_r, jx_rv_n, jx_rv_q, xe_inv0, jx_cc_i, jx_cc_v, Nat.reduceMod, Nat.reduceDiv, jx_cl9_i, xe_ifeq, xk_iload, jx_iv_i, ak_I, xe_i2l, xe_lconst, xl_1, xl_10, xe_sta3, xl_60, xl_0, xl_100, xe_ifne, xe_goto_w, xe_iconst, xi_m1, xe_ireturn, xk_getf, jx_gf_i, jx_ov_s, ak_V, xi_9, xx_9, xk_iald, ja_ia, ak_A, true_or, or_true, xe_istore, xi_0, xx_0, xe_icmp_ge, xk_iast, ja_is, ak_S, ak_P, xi_100, xe_inv1, xi_2, xx_2, xe_ifle, xi_6, xx_6, xi_5, xx_5, xe_icmp_ne, xe_goto, xe_sta1, xe_iadd, xk_iinc, ak_C, xi_1, jx_s1, List.set_cons_zero, List.set_cons_succ, jx_2_i, jx_2_l, jx_2_r, jx_2_n, jx_2_u, jx_2_s, jx_2_q, jx_k_i, jx_k_l, jx_k_r, jx_k_n, jx_k_u, jx_k_s, jx_k_q, tw_r, tw_f, tq_r, va_up_s, tm_isCourt, tq_inL, q0, q1, q2, q3, q4, and_self, sp_10]
        · simp only [cr_154, eb_154_0, eb_154_54, jx_ns_r, jx_ns_n, jx_ns_q, jx_ns_i, jx_gl_0, jx_gl_s, if_true, if_false, ite_true, ite_false, eq_self, Bool.false_eq_true, List.length_cons, List.length_nil, Nat.zero_le, Nat.reduceAdd, Nat.reduceSub, Nat.reduceLeDiff, Nat.reduceLT, Nat.reduceEqDiff, Int.reduceToNat, reduceIte, xe_aload, jx_rv_r, jx_rv_n, jx_rv_q, xe_inv0, jx_cc_i, jx_cc_v, Nat.reduceMod, Nat.reduceDiv, jx_cl9_i, xe_ifeq, xk_iload, jx_iv_i, ak_I, xe_i2l, xe_lconst, xl_1, xl_10, xe_sta3, xl_60, xl_0, xl_100, xe_ifne, xe_goto_w, xe_iconst, xi_m1, xe_ireturn, xk_getf, jx_gf_i, jx_ov_s, ak_V, xi_9, xx_9, xk_iald, ja_ia, ak_A, true_or, or_true, xe_istore, xi_0, xx_0, xe_icmp_ge, xk_iast, ja_is, ak_S, ak_P, xi_100, xe_inv1, xi_2, xx_2, xe_ifle, xi_6, xx_6, xi_5, xx_5, xe_icmp_ne, xe_goto, xe_sta1, xe_iadd, xk_iinc, ak_C, xi_1, jx_s1, List.set_cons_zero, List.set_cons_succ, jx_2_i, jx_2_l, jx_2_r, jx_2_n, jx_2_u, jx_2_s, jx_2_q, jx_k_i, jx_k_l, jx_k_r, jx_k_n, jx_k_u, jx_k_s, jx_k_q, tw_r, tw_f, tq_r, va_up_s, tm_isCourt, tq_inL, q0, q1, q2, q3, and_self, sp_10]
      · simp only [cr_154, eb_154_0, eb_154_54, jx_ns_r, jx_ns_n, jx_ns_q, jx_ns_i, jx_gl_0, jx_gl_s, if_true, if_false, ite_true, ite_false, eq_self, Bool.false_eq_true, List.length_cons, List.length_nil, Nat.zero_le, Nat.reduceAdd, Nat.reduceSub, Nat.reduceLeDiff, Nat.reduceLT, Nat.reduceEqDiff, Int.reduceToNat, reduceIte, xe_aload, jx_rv_r, jx_rv_n, jx_rv_q, xe_inv0, jx_cc_i, jx_cc_v, Nat.reduceMod, Nat.reduceDiv, jx_cl9_i, xe_ifeq, xk_iload, jx_iv_i, ak_I, xe_i2l, xe_lconst, xl_1, xl_10, xe_sta3, xl_60, xl_0, xl_100, xe_ifne, xe_goto_w, xe_iconst, xi_m1, xe_ireturn, xk_getf, jx_gf_i, jx_ov_s, ak_V, xi_9, xx_9, xk_iald, ja_ia, ak_A, true_or, or_true, xe_istore, xi_0, xx_0, xe_icmp_ge, xk_iast, ja_is, ak_S, ak_P, xi_100, xe_inv1, xi_2, xx_2, xe_ifle, xi_6, xx_6, xi_5, xx_5, xe_icmp_ne, xe_goto, xe_sta1, xe_iadd, xk_iinc, ak_C, xi_1, jx_s1, List.set_cons_zero, List.set_cons_succ, jx_2_i, jx_2_l, jx_2_r, jx_2_n, jx_2_u, jx_2_s, jx_2_q, jx_k_i, jx_k_l, jx_k_r, jx_k_n, jx_k_u, jx_k_s, jx_k_q, tw_r, tw_f, tq_r, va_up_s, tm_isCourt, tq_inL, q0, q1, q2, and_self, sp_10]
    · simp only [cr_154, eb_154_0, eb_154_54, jx_ns_r, jx_ns_n, jx_ns_q, jx_ns_i, jx_gl_0, jx_gl_s, if_true, if_false, ite_true, ite_false, eq_self, Bool.false_eq_true, List.length_cons, List.length_nil, Nat.zero_le, Nat.reduceAdd, Nat.reduceSub, Nat.reduceLeDiff, Nat.reduceLT, Nat.reduceEqDiff, Int.reduceToNat, reduceIte, xe_aload, jx_rv_r, jx_rv_n, jx_rv_q, xe_inv0, jx_cc_i, jx_cc_v, Nat.reduceMod, Nat.reduceDiv, jx_cl9_i, xe_ifeq, xk_iload, jx_iv_i, ak_I, xe_i2l, xe_lconst, xl_1, xl_10, xe_sta3, xl_60, xl_0, xl_100, xe_ifne, xe_goto_w, xe_iconst, xi_m1, xe_ireturn, xk_getf, jx_gf_i, jx_ov_s, ak_V, xi_9, xx_9, xk_iald, ja_ia, ak_A, true_or, or_true, xe_istore, xi_0, xx_0, xe_icmp_ge, xk_iast, ja_is, ak_S, ak_P, xi_100, xe_inv1, xi_2, xx_2, xe_ifle, xi_6, xx_6, xi_5, xx_5, xe_icmp_ne, xe_goto, xe_sta1, xe_iadd, xk_iinc, ak_C, xi_1, jx_s1, List.set_cons_zero, List.set_cons_succ, jx_2_i, jx_2_l, jx_2_r, jx_2_n, jx_2_u, jx_2_s, jx_2_q, jx_k_i, jx_k_l, jx_k_r, jx_k_n, jx_k_u, jx_k_s, jx_k_q, tw_r, tw_f, tq_r, va_up_s, tm_isCourt, tq_inL, q0, q1, sp_10]
  · simp only [cr_154, eb_154_0, eb_154_54, jx_ns_r, jx_ns_n, jx_ns_q, jx_ns_i, jx_gl_0, jx_gl_s, if_true, if_false, ite_true, ite_false, eq_self, Bool.false_eq_true, List.length_cons, List.length_nil, Nat.zero_le, Nat.reduceAdd, Nat.reduceSub, Nat.reduceLeDiff, Nat.reduceLT, Nat.reduceEqDiff, Int.reduceToNat, reduceIte, xe_aload, jx_rv_r, jx_rv_n, jx_rv_q, xe_inv0, jx_cc_i, jx_cc_v, Nat.reduceMod, Nat.reduceDiv, jx_cl9_i, xe_ifeq, xk_iload, jx_iv_i, ak_I, xe_i2l, xe_lconst, xl_1, xl_10, xe_sta3, xl_60, xl_0, xl_100, xe_ifne, xe_goto_w, xe_iconst, xi_m1, xe_ireturn, xk_getf, jx_gf_i, jx_ov_s, ak_V, xi_9, xx_9, xk_iald, ja_ia, ak_A, true_or, or_true, xe_istore, xi_0, xx_0, xe_icmp_ge, xk_iast, ja_is, ak_S, ak_P, xi_100, xe_inv1, xi_2, xx_2, xe_ifle, xi_6, xx_6, xi_5, xx_5, xe_icmp_ne, xe_goto, xe_sta1, xe_iadd, xk_iinc, ak_C, xi_1, jx_s1, List.set_cons_zero, List.set_cons_succ, jx_2_i, jx_2_l, jx_2_r, jx_2_n, jx_2_u, jx_2_s, jx_2_q, jx_k_i, jx_k_l, jx_k_r, jx_k_n, jx_k_u, jx_k_s, jx_k_q, tw_r, tw_f, tq_r, va_up_s, tm_isCourt, q0]
/-- an hour with its draws -/
theorem tm_dy {m ranks w0 w6 u9 j l : Int32} {lv : Value} {y : (Nat → Int32) × (Nat → Nat → Int32)} (iv : cq_iv y.1 y.2 day tm pm now) (hn : now < 2 ^ 30) (hX : X < 2 ^ 31) (eX : E 0 = nI X) (hv : v < n) (hn2 : n ≤ 60) (hlv : lv = jx_un ∨ ∃ z, lv = .int z) (hL : tq_lw (D + 2) (E 1) Q Lo) :
    ∃ W' lv', (∃ z, lv' = .int z) ∧ jx_eb (d + D + 6) 154 100 [.ref 113, .int l, .int (nI n), .int k, .int j, .int w0, .int w6, .int m, .int ranks, .int u9, .int (nI v), lv] [] (tw h y.1 y.2 E N Q W) = jx_eb (d + D + 6) 154 100 [.ref 113, .int l, .int (nI n), .int k, .int j, .int w0, .int w6, .int (m + (sp_dy Lo tm k X y).1), .int ranks, .int u9, .int (nI (v + 1)), lv'] [] (tw h (sp_dy Lo tm k X y).2.2.1 (sp_dy Lo tm k X y).2.2.2 (va_up E 0 (nI (sp_dy Lo tm k X y).2.1)) N Q W') := by
  have t6 := iv.2.2.2.2.1; have p6 := iv.2.2.2.2.2.2.1; have es := iv.2.2.2.2.2.1; have et := iv.2.2.2.1; have d12 := iv.2.2.1; have d1 := iv.2.1
  obtain ⟨s, a⟩ := y
  simp only at iv et es
  have h3 : ¬ nI n ≤ nI v := nI_ge hv (by omega)
  have e100 : (100 : Int32) = nI 100 := rfl
  have dxl := sp_dx_lt (n := X)
  have d1 := fun (d : Nat) (W : Nat → Nat → Int64) => tm_draws (d := d) (h := h) (s := s) (a := a) (E := E) (N := N) (Q := Q) (W := W) hX eX (m := 100) (by omega) (by omega)
  have fin : ∀ (y : (Nat → Int32) × (Nat → Nat → Int32)) (X' : Nat) W, cq_iv y.1 y.2 day tm pm now → ∃ W' z, jx_eb (d + D + 6) 154 142 [.ref 113, .int l, .int (nI n), .int k, .int j, .int w0, .int w6, .int m, .int ranks, .int u9, .int (nI v), lv] [] (tw h y.1 y.2 (va_up E 0 (nI X')) N Q W) = jx_eb (d + D + 6) 154 100 [.ref 113, .int l, .int (nI n), .int k, .int j, .int w0, .int w6, .int (m + (if (cq_go Lo y).1 8 = -1 then 0 else cq_bc (cq_ws y.1 y.2))), .int ranks, .int u9, .int (nI (v + 1)), .int z] [] (tw h (cq_go Lo y).1 (cq_go Lo y).2 (va_up E 0 (nI X')) N Q W') := by
    intro y X' W ivy
    obtain ⟨s, a⟩ := y
    simp only at ivy
    obtain ⟨W1, e1⟩ := tm_goes (d := d + 1) (h := h) (E := va_up E 0 (nI X')) (N := N) (Q := Q) (W := W) ivy (by omega) hL
    rw [show d + 1 + D + 5 = d + D + 6 by omega] at e1
    obtain ⟨w, hw, ew⟩ := cq_who_n (T := cq_th a) (o := s 1) pm p6
    have ews : cq_ws s a = nI w := by rw [cq_ws, ivy.2.2.2.2.2.1, nI_clamp (by omega)]; exact ew
    have hw6 := tq_p6 p6
    have bb := fun (d : Nat) (H : jx_H) => tq_bitsN (d := d) (n := w) (h := H) (by omega)
    rw [ews] at e1 ⊢
    refine ⟨W1, nI w, ?_⟩
    rcases hlv with hlv | ⟨z, hlv⟩ <;> subst hlv <;> by_cases r : (cq_go Lo (s, a)).1 8 = -1 <;> simp only [eb_154_142, eb_154_164, eb_154_169, jx_ns_r, jx_ns_n, jx_ns_q, jx_ns_i, jx_gl_0, jx_gl_s, if_true, if_false, ite_true, ite_false, eq_self, Bool.false_eq_true, List.length_cons, List.length_nil, Nat.zero_le, Nat.reduceAdd, Nat.reduceSub, Nat.reduceLeDiff, Nat.reduceLT, Nat.reduceEqDiff, Int.reduceToNat, reduceIte, xe_aload, jx_rv_r, jx_rv_n, jx_rv_q, xe_inv0, jx_cc_i, jx_cc_v, Nat.reduceMod, Nat.reduceDiv, jx_cl9_i, xe_ifeq, xk_iload, jx_iv_i, ak_I, xe_i2l, xe_lconst, xl_1, xl_10, xe_sta3, xl_60, xl_0, xl_100, xe_ifne, xe_goto_w, xe_iconst, xi_m1, xe_ireturn, xk_getf, jx_gf_i, jx_ov_s, ak_V, xi_9, xx_9, xk_iald, ja_ia, ak_A, true_or, or_true, xe_istore, xi_0, xx_0, xe_icmp_ge, xk_iast, ja_is, ak_S, ak_P, xi_100, xe_inv1, xi_2, xx_2, xe_ifle, xi_6, xx_6, xi_5, xx_5, xe_icmp_ne, xe_goto, xe_sta1, xe_iadd, xk_iinc, ak_C, xi_1, jx_s1, List.set_cons_zero, List.set_cons_succ, jx_2_i, jx_2_l, jx_2_r, jx_2_n, jx_2_u, jx_2_s, jx_2_q, jx_k_i, jx_k_l, jx_k_r, jx_k_n, jx_k_u, jx_k_s, jx_k_q, tw_r, tw_f, tq_r, va_up_s, e1, r, bb, nI_1]
  by_cases r1 : nI (sp_dr X 100) < k
  · have r1' : ¬ k ≤ nI (sp_dr X 100) := Int32.not_le.mpr r1
    by_cases r2 : 0 < tm
    · have r2' : ¬ nI tm ≤ 0 := nI_nle r2 (by omega)
      have eb : (decide (nI (sp_dr X 100) < k) && decide (0 < tm)) = true := by rw [decide_eq_true r1, decide_eq_true r2]; rfl
      have d2 := fun (d : Nat) (W : Nat → Nat → Int64) => tm_draws (d := d) (h := h) (s := s) (a := a) (E := va_up E 0 (nI (sp_dx X))) (N := N) (Q := Q) (W := W) dxl rfl (m := tm) r2 (by omega)
      obtain ⟨W', z, e⟩ := fin (va_up s 9 (nI (sp_dr (sp_dx X) tm)), a) (sp_dx (sp_dx X)) W (cq_iv_9 iv (sp_dr_pt r2))
      refine ⟨W', .int z, ⟨z, rfl⟩, ?_⟩
      simp only [sp_dy, eb, if_true]
      rw [← e, eb_154_100]
      simp only [jx_ns_r, jx_ns_n, jx_ns_q, jx_ns_i, jx_gl_0, jx_gl_s, if_true, if_false, ite_true, ite_false, eq_self, Bool.false_eq_true, List.length_cons, List.length_nil, Nat.zero_le, Nat.reduceAdd, Nat.reduceSub, Nat.reduceLeDiff, Nat.reduceLT, Nat.reduceEqDiff, Int.reduceToNat, reduceIte, xe_aload, jx_rv_r, jx_rv_n, jx_rv_q, xe_inv0, jx_cc_i, jx_cc_v, Nat.reduceMod, Nat.reduceDiv, jx_cl9_i, xe_ifeq, xk_iload, jx_iv_i, ak_I, xe_i2l, xe_lconst, xl_1, xl_10, xe_sta3, xl_60, xl_0, xl_100, xe_ifne, xe_goto_w, xe_iconst, xi_m1, xe_ireturn, xk_getf, jx_gf_i, jx_ov_s, ak_V, xi_9, xx_9, xk_iald, ja_ia, ak_A, true_or, or_true, xe_istore, xi_0, xx_0, xe_icmp_ge, xk_iast, ja_is, ak_S, ak_P, xi_100, xe_inv1, xi_2, xx_2, xe_ifle, xi_6, xx_6, xi_5, xx_5, xe_icmp_ne, xe_goto, xe_sta1, xe_iadd, xk_iinc, ak_C, xi_1, jx_s1, List.set_cons_zero, List.set_cons_succ, jx_2_i, jx_2_l, jx_2_r, jx_2_n, jx_2_u, jx_2_s, jx_2_q, jx_k_i, jx_k_l, jx_k_r, jx_k_n, jx_k_u, jx_k_s, jx_k_q, tw_r, tw_f, tw_s, tq_r, tq_w, tw_wo, tw_wsc, tq_ile_u, tq_ilo_u, va_up_s, tw_w2, tw_w3, tw_w4, tw_w5, tw_w6, tw_w7, tw_w8, tw_w9, tw_w10, tw_w11, tw_w12, tw_w13, tw_w14, tw_w15, tw_w16, tw_w17, tw_w18, tw_w29, tw_w30, tw_w31, tw_w32, tw_w33, tw_w34, tw_w35, tw_w36, tw_w37, tw_w38, tw_w39, tw_w40, tw_w44, tw_w45, tw_w46, tw_w47, tw_w48, tw_w49, tw_w50, h3, e100, d1, r1', et, r2', d2, va_up_up]
    · have r2' : nI tm ≤ 0 := by rw [show tm = 0 by omega]; decide
      have eb : ¬ (decide (nI (sp_dr X 100) < k) && decide (0 < tm)) = true := by rw [Bool.and_eq_true]; exact fun c => r2 (of_decide_eq_true c.2)
      obtain ⟨W', z, e⟩ := fin (s, a) (sp_dx X) W iv
      refine ⟨W', .int z, ⟨z, rfl⟩, ?_⟩
      simp only [sp_dy, eb, if_false, Bool.false_eq_true]
      rw [← e, eb_154_100]
      simp only [jx_ns_r, jx_ns_n, jx_ns_q, jx_ns_i, jx_gl_0, jx_gl_s, if_true, if_false, ite_true, ite_false, eq_self, Bool.false_eq_true, List.length_cons, List.length_nil, Nat.zero_le, Nat.reduceAdd, Nat.reduceSub, Nat.reduceLeDiff, Nat.reduceLT, Nat.reduceEqDiff, Int.reduceToNat, reduceIte, xe_aload, jx_rv_r, jx_rv_n, jx_rv_q, xe_inv0, jx_cc_i, jx_cc_v, Nat.reduceMod, Nat.reduceDiv, jx_cl9_i, xe_ifeq, xk_iload, jx_iv_i, ak_I, xe_i2l, xe_lconst, xl_1, xl_10, xe_sta3, xl_60, xl_0, xl_100, xe_ifne, xe_goto_w, xe_iconst, xi_m1, xe_ireturn, xk_getf, jx_gf_i, jx_ov_s, ak_V, xi_9, xx_9, xk_iald, ja_ia, ak_A, true_or, or_true, xe_istore, xi_0, xx_0, xe_icmp_ge, xk_iast, ja_is, ak_S, ak_P, xi_100, xe_inv1, xi_2, xx_2, xe_ifle, xi_6, xx_6, xi_5, xx_5, xe_icmp_ne, xe_goto, xe_sta1, xe_iadd, xk_iinc, ak_C, xi_1, jx_s1, List.set_cons_zero, List.set_cons_succ, jx_2_i, jx_2_l, jx_2_r, jx_2_n, jx_2_u, jx_2_s, jx_2_q, jx_k_i, jx_k_l, jx_k_r, jx_k_n, jx_k_u, jx_k_s, jx_k_q, tw_r, tw_f, tw_s, tq_r, tq_w, tw_wo, tw_wsc, tq_ile_u, tq_ilo_u, va_up_s, tw_w2, tw_w3, tw_w4, tw_w5, tw_w6, tw_w7, tw_w8, tw_w9, tw_w10, tw_w11, tw_w12, tw_w13, tw_w14, tw_w15, tw_w16, tw_w17, tw_w18, tw_w29, tw_w30, tw_w31, tw_w32, tw_w33, tw_w34, tw_w35, tw_w36, tw_w37, tw_w38, tw_w39, tw_w40, tw_w44, tw_w45, tw_w46, tw_w47, tw_w48, tw_w49, tw_w50, h3, e100, d1, r1', et, r2']
  · have r1' : k ≤ nI (sp_dr X 100) := Int32.not_lt.mp r1
    have eb : ¬ (decide (nI (sp_dr X 100) < k) && decide (0 < tm)) = true := by rw [Bool.and_eq_true]; exact fun c => r1 (of_decide_eq_true c.1)
    obtain ⟨W', z, e⟩ := fin (s, a) (sp_dx X) W iv
    refine ⟨W', .int z, ⟨z, rfl⟩, ?_⟩
    simp only [sp_dy, eb, if_false, Bool.false_eq_true]
    rw [← e, eb_154_100]
    simp only [jx_ns_r, jx_ns_n, jx_ns_q, jx_ns_i, jx_gl_0, jx_gl_s, if_true, if_false, ite_true, ite_false, eq_self, Bool.false_eq_true, List.length_cons, List.length_nil, Nat.zero_le, Nat.reduceAdd, Nat.reduceSub, Nat.reduceLeDiff, Nat.reduceLT, Nat.reduceEqDiff, Int.reduceToNat, reduceIte, xe_aload, jx_rv_r, jx_rv_n, jx_rv_q, xe_inv0, jx_cc_i, jx_cc_v, Nat.reduceMod, Nat.reduceDiv, jx_cl9_i, xe_ifeq, xk_iload, jx_iv_i, ak_I, xe_i2l, xe_lconst, xl_1, xl_10, xe_sta3, xl_60, xl_0, xl_100, xe_ifne, xe_goto_w, xe_iconst, xi_m1, xe_ireturn, xk_getf, jx_gf_i, jx_ov_s, ak_V, xi_9, xx_9, xk_iald, ja_ia, ak_A, true_or, or_true, xe_istore, xi_0, xx_0, xe_icmp_ge, xk_iast, ja_is, ak_S, ak_P, xi_100, xe_inv1, xi_2, xx_2, xe_ifle, xi_6, xx_6, xi_5, xx_5, xe_icmp_ne, xe_goto, xe_sta1, xe_iadd, xk_iinc, ak_C, xi_1, jx_s1, List.set_cons_zero, List.set_cons_succ, jx_2_i, jx_2_l, jx_2_r, jx_2_n, jx_2_u, jx_2_s, jx_2_q, jx_k_i, jx_k_l, jx_k_r, jx_k_n, jx_k_u, jx_k_s, jx_k_q, tw_r, tw_f, tw_s, tq_r, tq_w, tw_wo, tw_wsc, tq_ile_u, tq_ilo_u, va_up_s, tw_w2, tw_w3, tw_w4, tw_w5, tw_w6, tw_w7, tw_w8, tw_w9, tw_w10, tw_w11, tw_w12, tw_w13, tw_w14, tw_w15, tw_w16, tw_w17, tw_w18, tw_w29, tw_w30, tw_w31, tw_w32, tw_w33, tw_w34, tw_w35, tw_w36, tw_w37, tw_w38, tw_w39, tw_w40, tw_w44, tw_w45, tw_w46, tw_w47, tw_w48, tw_w49, tw_w50, h3, e100, d1, r1']
theorem tm_yr1 {m ranks w0 w6 u9 j l : Int32} {lv : Value} (iv : cq_iv s a day tm pm now) (hn : now ≤ 999) (hX : X < 2 ^ 31) (eX : E 0 = nI X) (hn2 : n ≤ 60) (hlv : lv = jx_un ∨ ∃ z, lv = .int z) (hL : tq_lw (D + 2) (E 1) Q Lo) :
    ∃ W' lv', (lv' = jx_un ∨ ∃ z, lv' = .int z) ∧ jx_eb (d + D + 6) 154 100 [.ref 113, .int l, .int (nI n), .int k, .int j, .int w0, .int w6, .int m, .int ranks, .int u9, .int 0, lv] [] (tw h s a E N Q W) = jx_eb (d + D + 6) 154 178 [.ref 113, .int l, .int (nI n), .int k, .int j, .int w0, .int w6, .int (sp_dn Lo tm k n m X (s, a)).1, .int ranks, .int u9, .int (nI n), lv'] [] (tw h (sp_dn Lo tm k n m X (s, a)).2.2.1 (sp_dn Lo tm k n m X (s, a)).2.2.2 (va_up E 0 (nI (sp_dn Lo tm k n m X (s, a)).2.1)) N Q W') := by
  generalize eG : sp_dn Lo tm k n m X (s, a) = G0
  have key := jx_lp (d := d + D + 6) (y := 154) (L := 100) (n := n) (γ := Int32 × Nat × ((Nat → Int32) × (Nat → Nat → Int32)) × Value × (Nat → Nat → Int64)) (ls := fun v g => [.ref 113, .int l, .int (nI n), .int k, .int j, .int w0, .int w6, .int g.1, .int ranks, .int u9, .int (nI v), g.2.2.2.1]) (H := fun _ g => tw h g.2.2.1.1 g.2.2.1.2 (va_up E 0 (nI g.2.1)) N Q g.2.2.2.2)
    (I := fun v g => cq_iv g.2.2.1.1 g.2.2.1.2 day tm pm (now + v) ∧ g.2.1 < 2 ^ 31 ∧ (g.2.2.2.1 = jx_un ∨ ∃ z, g.2.2.2.1 = .int z) ∧ sp_dn Lo tm k (n - v) g.1 g.2.1 g.2.2.1 = G0)
    (G := fun r => ∃ W' lv', (lv' = jx_un ∨ ∃ z, lv' = .int z) ∧ r = jx_eb (d + D + 6) 154 178 [.ref 113, .int l, .int (nI n), .int k, .int j, .int w0, .int w6, .int G0.1, .int ranks, .int u9, .int (nI n), lv'] [] (tw h G0.2.2.1 G0.2.2.2 (va_up E 0 (nI G0.2.1)) N Q W')) ?_ ?_ n 0 (m, X, (s, a), lv, W) (by omega) ⟨iv, hX, hlv, eG⟩
  · obtain ⟨W', lv', h1, e⟩ := key
    have eE : va_up E 0 (nI X) = E := by rw [← eX]; exact va_up_id
    simp only [nI_0, eE] at e
    exact ⟨W', lv', h1, e⟩
  · rintro v ⟨m', X', y, lv', W1⟩ hv ⟨ivv, hX', hlv', hG⟩
    simp only at ivv hX' hlv' hG
    obtain ⟨W2, lv2, hl2, e⟩ := tm_dy (d := d) (h := h) (N := N) (E := va_up E 0 (nI X')) (W := W1) (k := k) (m := m') (ranks := ranks) (w0 := w0) (w6 := w6) (u9 := u9) (j := j) (l := l) ivv (by omega) hX' rfl hv hn2 hlv' hL
    rw [show n - v = (n - (v + 1)) + 1 by omega, sp_dn] at hG
    have dc := sp_dy_c (Lo := Lo) (k := k) ivv (by omega) cq_eq_r hX'
    rw [va_up_up] at e
    exact .inr ⟨(m' + (sp_dy Lo tm k X' y).1, (sp_dy Lo tm k X' y).2.1, (sp_dy Lo tm k X' y).2.2, lv2, W2), ⟨dc.2.2.2.2, dc.2.2.1, .inr hl2, hG⟩, e⟩
  · rintro ⟨m', X', y, lv', W1⟩ ⟨ivv, hX', hlv', hG⟩
    simp only at hlv' hG
    have h3 : nI n ≤ nI n := (nI_leI (by omega) (by omega)).mpr (Nat.le_refl _)
    rw [Nat.sub_self, sp_dn] at hG
    refine ⟨W1, lv', hlv', ?_⟩
    rw [← hG]
    rcases hlv' with r | ⟨z, r⟩ <;> subst r <;> simp only [eb_154_100, jx_ns_r, jx_ns_n, jx_ns_q, jx_ns_i, jx_gl_0, jx_gl_s, if_true, if_false, ite_true, ite_false, eq_self, Bool.false_eq_true, List.length_cons, List.length_nil, Nat.zero_le, Nat.reduceAdd, Nat.reduceSub, Nat.reduceLeDiff, Nat.reduceLT, Nat.reduceEqDiff, Int.reduceToNat, reduceIte, xe_aload, jx_rv_r, jx_rv_n, jx_rv_q, xe_inv0, jx_cc_i, jx_cc_v, Nat.reduceMod, Nat.reduceDiv, jx_cl9_i, xe_ifeq, xk_iload, jx_iv_i, ak_I, xe_i2l, xe_lconst, xl_1, xl_10, xe_sta3, xl_60, xl_0, xl_100, xe_ifne, xe_goto_w, xe_iconst, xi_m1, xe_ireturn, xk_getf, jx_gf_i, jx_ov_s, ak_V, xi_9, xx_9, xk_iald, ja_ia, ak_A, true_or, or_true, xe_istore, xi_0, xx_0, xe_icmp_ge, xk_iast, ja_is, ak_S, ak_P, xi_100, xe_inv1, xi_2, xx_2, xe_ifle, xi_6, xx_6, xi_5, xx_5, xe_icmp_ne, xe_goto, xe_sta1, xe_iadd, xk_iinc, ak_C, xi_1, jx_s1, List.set_cons_zero, List.set_cons_succ, jx_2_i, jx_2_l, jx_2_r, jx_2_n, jx_2_u, jx_2_s, jx_2_q, jx_k_i, jx_k_l, jx_k_r, jx_k_n, jx_k_u, jx_k_s, jx_k_q, h3]
theorem tm_years (h0 : 0 < s 0) (iv : cq_iv s a day tm pm now) (hn : now ≤ 999) (h1u : 1 ≤ um) (hu : um ≤ 10) (h1n : 1 ≤ n) (h60 : n ≤ 60) (q3 : 0 ≤ i.toInt64 ∧ i.toInt64 ≤ 100) (hk : 0 ≤ k.toInt64 ∧ k.toInt64 ≤ 1) (hX : X < 2 ^ 31) (eX : E 0 = nI X) (hL : tq_lw (D + 2) (E 1) Q Lo) :
    tq_fin h s a E N Q (jx_cr (d + D + 7) 154 [.ref 113, .int (nI um), .int (nI n), .int i, .int k] (tw h s a E N Q W)) (if k = 0 then (sp_yr Lo s a tm pm i n X um).1 else (sp_yr Lo s a tm pm i n X um).2.1) := by
  have t6 := iv.2.2.2.2.1; have p6 := iv.2.2.2.2.2.2.1; have es := iv.2.2.2.2.2.1; have et := iv.2.2.2.1; have d12 := iv.2.2.1; have d1 := iv.2.1
  have hq1 : 1 ≤ (nI um).toInt64 ∧ (nI um).toInt64 ≤ 10 := sp_rg (a := 1) (b := 10) h1u hu (by omega)
  have hq2 : 1 ≤ (nI n).toInt64 ∧ (nI n).toInt64 ≤ 60 := sp_rg (a := 1) (b := 60) h1n h60 (by omega)
  have lt := sp_yr_lt (Lo := Lo) (k := i) hX iv hn h60
  obtain ⟨N1, Q1, hN1, hQ1, hK, e1⟩ := tq_keep (d := d + D + 3) (h := h) (s := s) (a := a) (E := E) (N := N) (Q := Q) (W := W)
  have hL1 := tq_lw_Q hL (tq_qf_l hQ1)
  have key := jx_lp (d := d + D + 6) (y := 154) (L := 82) (n := um) (γ := (Nat → Nat → Int32) × (Nat → Int32) × Value × Value × (Nat → Nat → Int64)) (ls := fun m g => [.ref 113, .int (nI um), .int (nI n), .int i, .int k, .int (nI X), .int (nI (sp_yr Lo s a tm pm i n X m).2.2), .int (sp_yr Lo s a tm pm i n X m).1, .int (sp_yr Lo s a tm pm i n X m).2.1, .int (nI m), g.2.2.1, g.2.2.2.1]) (H := fun _ g => tw h s g.1 E g.2.1 Q1 g.2.2.2.2)
    (I := fun m g => tq_al a g.1 ∧ tq_nf N g.2.1 ∧ (g.2.2.1 = jx_un ∨ ∃ z, g.2.2.1 = .int z) ∧ (g.2.2.2.1 = jx_un ∨ ∃ z, g.2.2.2.1 = .int z))
    (G := fun r => tq_fin h s a E N Q r (if k = 0 then (sp_yr Lo s a tm pm i n X um).1 else (sp_yr Lo s a tm pm i n X um).2.1)) ?_ ?_ um 0 (a, N1, jx_un, jx_un, W) (by omega) ⟨tq_al_r, hN1, .inl rfl, .inl rfl⟩
  · obtain ⟨a', N', Q', W', h1, h2, h3, e⟩ := key
    refine ⟨a', N', Q', W', h1, h2, h3, ?_⟩
    simp only [sp_yr, nI_0] at e
    simp only [cr_154, eb_154_0, eb_154_56, jx_ns_r, jx_ns_n, jx_ns_q, jx_ns_i, jx_gl_0, jx_gl_s, if_true, if_false, ite_true, ite_false, eq_self, Bool.false_eq_true, List.length_cons, List.length_nil, Nat.zero_le, Nat.reduceAdd, Nat.reduceSub, Nat.reduceLeDiff, Nat.reduceLT, Nat.reduceEqDiff, Int.reduceToNat, reduceIte, xe_aload, jx_rv_r, jx_rv_n, jx_rv_q, xe_inv0, jx_cc_i, jx_cc_v, Nat.reduceMod, Nat.reduceDiv, jx_cl9_i, xe_ifeq, xk_iload, jx_iv_i, ak_I, xe_i2l, xe_lconst, xl_1, xl_10, xe_sta3, xl_60, xl_0, xl_100, xe_ifne, xe_goto_w, xe_iconst, xi_m1, xe_ireturn, xk_getf, jx_gf_i, jx_ov_s, ak_V, xi_9, xx_9, xk_iald, ja_ia, ak_A, true_or, or_true, xe_istore, xi_0, xx_0, xe_icmp_ge, xk_iast, ja_is, ak_S, ak_P, xi_100, xe_inv1, xi_2, xx_2, xe_ifle, xi_6, xx_6, xi_5, xx_5, xe_icmp_ne, xe_goto, xe_sta1, xe_iadd, xk_iinc, ak_C, xi_1, jx_s1, List.set_cons_zero, List.set_cons_succ, jx_2_i, jx_2_l, jx_2_r, jx_2_n, jx_2_u, jx_2_s, jx_2_q, jx_k_i, jx_k_l, jx_k_r, jx_k_n, jx_k_u, jx_k_s, jx_k_q, tw_r, tw_f, tq_r, va_up_s, tm_isCourt, h0, tq_inL, hq1, hq2, q3, hk, and_self, sp_10, eX, e1]
    exact e
  · rintro m ⟨a1, N2, u10, u11, W1⟩ hm ⟨al, hN2, h10, h11⟩
    simp only at al hN2 h10 h11
    have h3 : ¬ nI um ≤ nI m := nI_ge hm (by omega)
    have ce := tq_al_e (s := s) (day := day) t6 p6 al
    have ivp := cq_iv_c iv ce
    generalize hr : sp_yr Lo s a tm pm i n X m = r
    have hXr : r.2.2 < 2 ^ 31 := by rw [← hr]; exact lt m
    obtain ⟨W2, lv2, hl2, e2⟩ := tm_yr1 (d := d) (h := h) (s := s) (a := a1) (E := va_up E 0 (nI r.2.2)) (N := N2) (Q := Q1) (W := W1) (k := i) (m := r.1) (ranks := r.2.1) (w0 := nI X) (w6 := nI r.2.2) (u9 := nI m) (j := k) (l := nI um) ivp hn hXr rfl h60 h11 hL1
    have dc := sp_dn_c (Lo := Lo) (k := i) n r.1 r.2.2 now s s a a1 iv (by omega) ce hXr
    have obE : ∀ (n : Nat) (m : Int32) (X : Nat) (s : Nat → Int32) (b : Nat → Nat → Int32), tq_ob a b → tq_ob a (sp_dn Lo tm i n m X (s, b)).2.2.2 := by
      intro n
      induction n with
      | zero => intro m X s b hb; exact hb
      | succ n ih =>
        intro m X s b hb
        rw [sp_dn]
        refine ih _ _ _ _ ?_
        by_cases eb : (decide (nI (sp_dr X 100) < i) && decide (0 < tm)) = true
        · simp only [sp_dy, eb, if_true]; exact tq_ob_go hb
        · simp only [sp_dy, eb, if_false, Bool.false_eq_true]; exact tq_ob_go hb
    have sE : ∀ (n : Nat) (m : Int32) (X : Nat) (s : Nat → Int32) (b : Nat → Nat → Int32), ∀ k, k < 7 → (sp_dn Lo tm i n m X (s, b)).2.2.1 k = s k := by
      intro n
      induction n with
      | zero => intro m X s b k hk; rfl
      | succ n ih =>
        intro m X s b k hk
        rw [sp_dn]
        refine (ih _ _ _ _ k hk).trans ?_
        by_cases eb : (decide (nI (sp_dr X 100) < i) && decide (0 < tm)) = true
        · simp only [sp_dy, eb, if_true]
          exact (cq_gn_2 (n := 1) (y := (va_up s 9 (nI (sp_dr (sp_dx X) tm)), b)) hk).trans (va_up_nj (by omega))
        · simp only [sp_dy, eb, if_false, Bool.false_eq_true]
          exact cq_gn_2 (n := 1) (y := (s, b)) hk
    have obE := obE n r.1 r.2.2 s a1 al.1
    have s2 := sE n r.1 r.2.2 s a1 2 (by omega)
    have s3 := sE n r.1 r.2.2 s a1 3 (by omega)
    generalize eE : sp_dn Lo tm i n r.1 r.2.2 (s, a1) = G1 at e2 dc obE s2 s3
    have ers : cq_ra (G1.2.2.2 8) (G1.2.2.2 0) tm pm = cq_ra ((sp_dn Lo tm i n r.1 r.2.2 (s, a)).2.2.2 8) (a 0) tm pm :=
      cq_ra_c (fun j hj => (dc.2.2.2.2.2.2 j hj).2.2.2.1.symm) (fun j hj => by rw [obE 0 (by omega)])
    have hra := fun (d : Nat) (W : Nat → Nat → Int64) => tm_allRank (d := d) (h := h) (s := G1.2.2.1) (a := G1.2.2.2) (E := va_up (va_up E 0 (nI r.2.2)) 0 (nI G1.2.1)) (N := N2) (Q := Q1) (W := W) t6 (s2.trans et) p6 (s3.trans es)
    obtain ⟨N4, hN4, e4⟩ := tq_lay (d := d + D + 3) (h := h) (s := G1.2.2.1) (a := G1.2.2.2) (E := va_up (va_up E 0 (nI r.2.2)) 0 (nI G1.2.1)) (N := N2) (Q := Q1) (W := W2) hK (fun j hj => by rw [va_up_nj (by omega), va_up_nj (by omega)])
    refine .inr ⟨(sp_sa a G1.2.2.2, N4, .int (nI n), lv2, W2), ⟨tq_al_sa obE, tq_nf_t hN2 hN4, .inr ⟨_, rfl⟩, hl2⟩, ?_⟩
    have t1 : jx_eb (d + D + 6) 154 178 [.ref 113, .int (nI um), .int (nI n), .int i, .int k, .int (nI X), .int (nI r.2.2), .int G1.1, .int r.2.1, .int (nI m), .int (nI n), lv2] [] (tw h G1.2.2.1 G1.2.2.2 (va_up (va_up E 0 (nI r.2.2)) 0 (nI G1.2.1)) N2 Q1 W2) = jx_eb (d + D + 6) 154 82 [.ref 113, .int (nI um), .int (nI n), .int i, .int k, .int (nI X), .int (nI G1.2.1), .int G1.1, .int (r.2.1 + cq_ra (G1.2.2.2 8) (G1.2.2.2 0) tm pm), .int (nI (m + 1)), .int (nI n), lv2] [] (tw h s (sp_sa a G1.2.2.2) E N4 Q1 W2) := by
      rcases hl2 with q | ⟨z, q⟩ <;> subst q <;> simp only [eb_154_178, jx_ns_r, jx_ns_n, jx_ns_q, jx_ns_i, jx_gl_0, jx_gl_s, if_true, if_false, ite_true, ite_false, eq_self, Bool.false_eq_true, List.length_cons, List.length_nil, Nat.zero_le, Nat.reduceAdd, Nat.reduceSub, Nat.reduceLeDiff, Nat.reduceLT, Nat.reduceEqDiff, Int.reduceToNat, reduceIte, xe_aload, jx_rv_r, jx_rv_n, jx_rv_q, xe_inv0, jx_cc_i, jx_cc_v, Nat.reduceMod, Nat.reduceDiv, jx_cl9_i, xe_ifeq, xk_iload, jx_iv_i, ak_I, xe_i2l, xe_lconst, xl_1, xl_10, xe_sta3, xl_60, xl_0, xl_100, xe_ifne, xe_goto_w, xe_iconst, xi_m1, xe_ireturn, xk_getf, jx_gf_i, jx_ov_s, ak_V, xi_9, xx_9, xk_iald, ja_ia, ak_A, true_or, or_true, xe_istore, xi_0, xx_0, xe_icmp_ge, xk_iast, ja_is, ak_S, ak_P, xi_100, xe_inv1, xi_2, xx_2, xe_ifle, xi_6, xx_6, xi_5, xx_5, xe_icmp_ne, xe_goto, xe_sta1, xe_iadd, xk_iinc, ak_C, xi_1, jx_s1, List.set_cons_zero, List.set_cons_succ, jx_2_i, jx_2_l, jx_2_r, jx_2_n, jx_2_u, jx_2_s, jx_2_q, jx_k_i, jx_k_l, jx_k_r, jx_k_n, jx_k_u, jx_k_s, jx_k_q, tw_r, tw_f, tq_r, va_up_s, hra, e4, reduceIte, nI_1]
    rw [sp_yr, hr]
    simp only
    rw [dc.1, dc.2.1, ← ers, ← t1, ← e2, eb_154_82]
    rcases h10 with q | ⟨z, q⟩ <;> subst q <;> rcases h11 with q | ⟨z, q⟩ <;> subst q <;> simp only [jx_ns_r, jx_ns_n, jx_ns_q, jx_ns_i, jx_gl_0, jx_gl_s, if_true, if_false, ite_true, ite_false, eq_self, Bool.false_eq_true, List.length_cons, List.length_nil, Nat.zero_le, Nat.reduceAdd, Nat.reduceSub, Nat.reduceLeDiff, Nat.reduceLT, Nat.reduceEqDiff, Int.reduceToNat, reduceIte, xe_aload, jx_rv_r, jx_rv_n, jx_rv_q, xe_inv0, jx_cc_i, jx_cc_v, Nat.reduceMod, Nat.reduceDiv, jx_cl9_i, xe_ifeq, xk_iload, jx_iv_i, ak_I, xe_i2l, xe_lconst, xl_1, xl_10, xe_sta3, xl_60, xl_0, xl_100, xe_ifne, xe_goto_w, xe_iconst, xi_m1, xe_ireturn, xk_getf, jx_gf_i, jx_ov_s, ak_V, xi_9, xx_9, xk_iald, ja_ia, ak_A, true_or, or_true, xe_istore, xi_0, xx_0, xe_icmp_ge, xk_iast, ja_is, ak_S, ak_P, xi_100, xe_inv1, xi_2, xx_2, xe_ifle, xi_6, xx_6, xi_5, xx_5, xe_icmp_ne, xe_goto, xe_sta1, xe_iadd, xk_iinc, ak_C, xi_1, jx_s1, List.set_cons_zero, List.set_cons_succ, jx_2_i, jx_2_l, jx_2_r, jx_2_n, jx_2_u, jx_2_s, jx_2_q, jx_k_i, jx_k_l, jx_k_r, jx_k_n, jx_k_u, jx_k_s, jx_k_q, tw_r, tw_f, tw_s, tq_r, tq_w, tw_wo, tw_wsc, tq_ile_u, tq_ilo_u, va_up_s, tw_w2, tw_w3, tw_w4, tw_w5, tw_w6, tw_w7, tw_w8, tw_w9, tw_w10, tw_w11, tw_w12, tw_w13, tw_w14, tw_w15, tw_w16, tw_w17, tw_w18, tw_w29, tw_w30, tw_w31, tw_w32, tw_w33, tw_w34, tw_w35, tw_w36, tw_w37, tw_w38, tw_w39, tw_w40, tw_w44, tw_w45, tw_w46, tw_w47, tw_w48, tw_w49, tw_w50, h3]
  · rintro ⟨a1, N2, u10, u11, W1⟩ ⟨al, hN2, h10, h11⟩
    simp only at al hN2 h10 h11
    have h3 : nI um ≤ nI um := (nI_leI (by omega) (by omega)).mpr (Nat.le_refl _)
    have eE : va_up E 0 (nI X) = E := by rw [← eX]; exact va_up_id
    refine ⟨a1, N2, Q1, W1, al, hN2, hQ1, ?_⟩
    rcases h10 with q | ⟨z, q⟩ <;> subst q <;> rcases h11 with q | ⟨z, q⟩ <;> subst q <;> by_cases r : k = 0 <;> simp only [eb_154_82, eb_154_206, eb_154_225, eb_154_227, jx_ns_r, jx_ns_n, jx_ns_q, jx_ns_i, jx_gl_0, jx_gl_s, if_true, if_false, ite_true, ite_false, eq_self, Bool.false_eq_true, List.length_cons, List.length_nil, Nat.zero_le, Nat.reduceAdd, Nat.reduceSub, Nat.reduceLeDiff, Nat.reduceLT, Nat.reduceEqDiff, Int.reduceToNat, reduceIte, xe_aload, jx_rv_r, jx_rv_n, jx_rv_q, xe_inv0, jx_cc_i, jx_cc_v, Nat.reduceMod, Nat.reduceDiv, jx_cl9_i, xe_ifeq, xk_iload, jx_iv_i, ak_I, xe_i2l, xe_lconst, xl_1, xl_10, xe_sta3, xl_60, xl_0, xl_100, xe_ifne, xe_goto_w, xe_iconst, xi_m1, xe_ireturn, xk_getf, jx_gf_i, jx_ov_s, ak_V, xi_9, xx_9, xk_iald, ja_ia, ak_A, true_or, or_true, xe_istore, xi_0, xx_0, xe_icmp_ge, xk_iast, ja_is, ak_S, ak_P, xi_100, xe_inv1, xi_2, xx_2, xe_ifle, xi_6, xx_6, xi_5, xx_5, xe_icmp_ne, xe_goto, xe_sta1, xe_iadd, xk_iinc, ak_C, xi_1, jx_s1, List.set_cons_zero, List.set_cons_succ, jx_2_i, jx_2_l, jx_2_r, jx_2_n, jx_2_u, jx_2_s, jx_2_q, jx_k_i, jx_k_l, jx_k_r, jx_k_n, jx_k_u, jx_k_s, jx_k_q, tw_r, tw_f, tw_s, tq_r, tq_w, tw_wo, tw_wsc, tq_ile_u, tq_ilo_u, va_up_s, tw_w2, tw_w3, tw_w4, tw_w5, tw_w6, tw_w7, tw_w8, tw_w9, tw_w10, tw_w11, tw_w12, tw_w13, tw_w14, tw_w15, tw_w16, tw_w17, tw_w18, tw_w29, tw_w30, tw_w31, tw_w32, tw_w33, tw_w34, tw_w35, tw_w36, tw_w37, tw_w38, tw_w39, tw_w40, tw_w44, tw_w45, tw_w46, tw_w47, tw_w48, tw_w49, tw_w50, h3, eE, r]
end TP
