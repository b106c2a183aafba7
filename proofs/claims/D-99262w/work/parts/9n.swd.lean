/-! THE TWIN'S PARSER: behind a fault -/
set_option maxRecDepth 100000
section PLI
variable {d : Nat} {h : jx_H} {s : Nat → Int32} {a : Nat → Nat → Int32} {E Nb : Nat → Int32} {Qb : Nat → Nat → Int32} {W : Nat → Nat → Int64} {n M g sl i k : Nat} {p f en de co op v l : Int32} {so nu on : Nat → Int32}
theorem dgf_n {tp : Nat → Int32} (hf : ¬ f = 0) : dgf tp M n l f = f := by
  rw [dgf, flt_n hf, flt_n hf, ite_self, ite_self]
theorem m_value62n {kw : Nat} (hf : ¬ f = 0) (hs : ss_ok h) (e28 : Nb 28 = 12) (kb : kw < 12) : jx_eb (d + 6) 76 62 [.ref 113, .int (nI n), .int (nI kw)] [] (tw h s a E (pN Nb (nI n) (f) (en) (de) (co) (op)) (pQ Qb (so) (nu) (on)) W) = some (.inl none, (tw h s a E (pN Nb (nI (n + st_n (nmw kw))) (f) (en) (de) (co + 1) (op)) (pQ Qb (so) (nu) (on)) W)) := by
  have nb := nmw_b kb
  have n12 : ¬ nI kw = 12 := fun q => by
    have := (nI_eq (a := kw) (b := 12) (by omega) (by omega)).mp q
    omega
  have mc := fun d => m_isCounted (d := d) (h := h) (s := s) (a := a) (E := E) (Nb := Nb) (Qb := Qb) (W := W) (p := nI n) (v := nI n) (f := f) (en := en) (de := de) (co := co) (op := op) (so := so) (nu := nu) (on := on)
  rw [flt_n hf, ite_self] at mc
  have hH : ss_ok (tw h s a E (pN Nb (nI n) (f) (en) (de) (co + 1) (op)) (pQ Qb (so) (nu) (on)) W) := ss_tw hs
  have sl' := fun d => String_length (d := d) hH nb.1
  obtain ⟨⟨fs, h19⟩, _⟩ := hH (nmw kw) nb.1
  have wo := fun (d : Nat) (H : jx_H) => m_wordOf (d := d) (H := H) kb
  have me := fun d => m_entry0 (d := d) (h := h) (s := s) (a := a) (E := E) (Nb := Nb) (Qb := Qb) (W := W) (p := nI (n + st_n (nmw kw))) (l := 1) (v := nI kw) (en := en) (de := de) (co := co + 1) (op := op) (so := so) (nu := nu) (on := on) hf
  simp only [eb_76_62, eb_76_77, jx_ns_r, jx_ns_n, jx_ns_q, jx_ns_i, jx_gl_0, jx_gl_s, if_true, if_false, ite_true, ite_false, eq_self, Bool.false_eq_true, List.length_cons, List.length_nil, Nat.zero_le, Nat.reduceAdd, Nat.reduceSub, Nat.reduceLeDiff, Nat.reduceLT, Nat.reduceEqDiff, Int.reduceToNat, reduceIte, xe_aload, jx_rv_r, jx_rv_n, jx_rv_q, xe_inv0, jx_cc_i, jx_cc_v, Nat.reduceMod, Nat.reduceDiv, jx_cl9_i, xk_getf, jx_gf_i, jx_ov_s, ak_V, xe_istore, xe_ifeq, xe_iconst, xi_99999, xe_inv1, xk_iload, jx_iv_i, ak_I, xi_0, xx_0, xe_inv2, xe_return, xe_goto_w, xe_icmp_ge, xe_sta1, xe_ifne, xk_iinc, ak_C, xi_1, xe_goto, xe_icmp_ne, xe_dup, jx_2_i, jx_2_l, jx_2_r, jx_2_n, jx_2_q, or_self, xe_iadd, xk_putf, ak_P, jx_pf_i, jx_pf_z, jx_pf_l, jx_pf_r, jx_pf_n, jx_pf_q, xx_1, jx_s1, List.set_cons_zero, List.set_cons_succ, jx_2_u, jx_2_s, jx_k_i, jx_k_l, jx_k_r, jx_k_n, jx_k_u, jx_k_s, jx_k_q, tw_r, tw_f, tw_s, tw_wo, pN_r, pN_w, pQ_r, pQ_w, tw_w30, tw_w31, tw_w36, va_up_s, e28, n12, mc, wo, h19, sl', nI_add, me]
theorem m_value_f (hf : ¬ f = 0) (hs : ss_ok h) (eM : Nb 19 = nI M) (hM : M ≤ 400) (hb : tb (Qb 29)) (e28 : Nb 28 = 12) (hn : n ≤ M) : ∃ n2 co2, n2 ≤ M ∧ jx_cr (d + 7) 76 [.ref 113] (tw h s a E (pN Nb (nI n) (f) (en) (de) (co) (op)) (pQ Qb (so) (nu) (on)) W) = some (.inl none, (tw h s a E (pN Nb (nI n2) (f) (en) (de) (co2) (op)) (pQ Qb (so) (nu) (on)) W)) := by
  have s1 := fun d => m_blanks (d := d) (n := n) (h := h) (s := s) (a := a) (E := E) (Nb := Nb) (Qb := Qb) (W := W) (f := f) (en := en) (de := de) (co := co) (op := op) (so := so) (nu := nu) (on := on) eM hM hb (by omega)
  have le := skp_le (tp := Qb 29) hn
  generalize skp (Qb 29) M n = m at le s1
  have dg := fun d => m_isDigit (d := d) (n := m) (h := h) (s := s) (a := a) (E := E) (Nb := Nb) (Qb := Qb) (W := W) (f := f) (en := en) (de := de) (co := co) (op := op) (so := so) (nu := nu) (on := on) eM hM hb (by omega)
  by_cases r0 : 0 < dgp (Qb 29) M m
  · have dl := dgp_le (tp := Qb 29) le
    rw [if_pos r0] at dg
    have mdg := fun d => m_digits (d := d) (n := m) (h := h) (s := s) (a := a) (E := E) (Nb := Nb) (Qb := Qb) (W := W) (l := 99999) (f := f) (en := en) (de := de) (co := co) (op := op) (so := so) (nu := nu) (on := on) eM hM hb (by omega)
    rw [dgf_n hf] at mdg
    generalize nv (Qb 29) m (dgp (Qb 29) M m) = V at *
    generalize dgp (Qb 29) M m = D at *
    have mc := fun d => m_isCounted (d := d) (h := h) (s := s) (a := a) (E := E) (Nb := Nb) (Qb := Qb) (W := W) (p := nI (m + D)) (v := nI m) (f := f) (en := en) (de := de) (co := co) (op := op) (so := so) (nu := nu) (on := on)
    rw [flt_n hf, ite_self] at mc
    have me := fun d => m_entry0 (d := d) (h := h) (s := s) (a := a) (E := E) (Nb := Nb) (Qb := Qb) (W := W) (p := nI (m + D)) (l := 0) (v := V) (en := en) (de := de) (co := co + 1) (op := op) (so := so) (nu := nu) (on := on) hf
    refine ⟨m + D, co + 1, dl, ?_⟩
    simp only [cr_76, eb_76_0, jx_ns_r, jx_ns_n, jx_ns_q, jx_ns_i, jx_gl_0, jx_gl_s, if_true, if_false, ite_true, ite_false, eq_self, Bool.false_eq_true, List.length_cons, List.length_nil, Nat.zero_le, Nat.reduceAdd, Nat.reduceSub, Nat.reduceLeDiff, Nat.reduceLT, Nat.reduceEqDiff, Int.reduceToNat, reduceIte, xe_aload, jx_rv_r, jx_rv_n, jx_rv_q, xe_inv0, jx_cc_i, jx_cc_v, Nat.reduceMod, Nat.reduceDiv, jx_cl9_i, xk_getf, jx_gf_i, jx_ov_s, ak_V, xe_istore, xe_ifeq, xe_iconst, xi_99999, xe_inv1, xk_iload, jx_iv_i, ak_I, xi_0, xx_0, xe_inv2, xe_return, xe_goto_w, xe_icmp_ge, xe_sta1, xe_ifne, xk_iinc, ak_C, xi_1, xe_goto, xe_icmp_ne, xe_dup, jx_2_i, jx_2_l, jx_2_r, jx_2_n, jx_2_q, or_self, xe_iadd, xk_putf, ak_P, jx_pf_i, jx_pf_z, jx_pf_l, jx_pf_r, jx_pf_n, jx_pf_q, xx_1, jx_s1, List.set_cons_zero, List.set_cons_succ, jx_2_u, jx_2_s, jx_k_i, jx_k_l, jx_k_r, jx_k_n, jx_k_u, jx_k_s, jx_k_q, tw_r, tw_f, tw_s, tw_wo, pN_r, pN_w, pQ_r, pQ_w, tw_w30, tw_w31, tw_w36, va_up_s, s1, dg, sp_10, mdg, mc, me]
  · rw [if_neg r0] at dg
    have sd := fun d i hi => m_stood (d := d) (i := i) (n := m) (h := h) (s := s) (a := a) (E := E) (Nb := Nb) (Qb := Qb) (W := W) (f := f) (en := en) (de := de) (co := co) (op := op) (so := so) (nu := nu) (on := on) hs hi eM hM (by omega)
    have wo := fun (d k : Nat) (H : jx_H) (hk : k < 12) => m_wordOf (d := d) (H := H) hk
    have lp := jx_lp (d := d + 6) (y := 76) (L := 37) (n := 12) (γ := Unit) (ls := fun k _ => [.ref 113, .int (nI m), .int (nI k)]) (H := fun _ _ => (tw h s a E (pN Nb (nI m) (f) (en) (de) (co) (op)) (pQ Qb (so) (nu) (on)) W))
      (I := fun k _ => fd (fun k => wmb (Qb 29) M m (nmw k)) 12 0 = fd (fun k => wmb (Qb 29) M m (nmw k)) (12 - k) k)
      (G := fun r => r = jx_eb (d + 6) 76 62 [.ref 113, .int (nI m), .int (match fd (fun k => wmb (Qb 29) M m (nmw k)) 12 0 with | some k => nI k | none => 12)] [] (tw h s a E (pN Nb (nI m) (f) (en) (de) (co) (op)) (pQ Qb (so) (nu) (on)) W)) ?_ ?_ 12 0 () (by omega) rfl
    · have st : jx_cr (d + 7) 76 [.ref 113] (tw h s a E (pN Nb (nI n) (f) (en) (de) (co) (op)) (pQ Qb (so) (nu) (on)) W) = jx_eb (d + 6) 76 62 [.ref 113, .int (nI m), .int (match fd (fun k => wmb (Qb 29) M m (nmw k)) 12 0 with | some k => nI k | none => 12)] [] (tw h s a E (pN Nb (nI m) (f) (en) (de) (co) (op)) (pQ Qb (so) (nu) (on)) W) := by
        rw [nI_0] at lp
        simp only [cr_76, eb_76_0, eb_76_35, jx_ns_r, jx_ns_n, jx_ns_q, jx_ns_i, jx_gl_0, jx_gl_s, if_true, if_false, ite_true, ite_false, eq_self, Bool.false_eq_true, List.length_cons, List.length_nil, Nat.zero_le, Nat.reduceAdd, Nat.reduceSub, Nat.reduceLeDiff, Nat.reduceLT, Nat.reduceEqDiff, Int.reduceToNat, reduceIte, xe_aload, jx_rv_r, jx_rv_n, jx_rv_q, xe_inv0, jx_cc_i, jx_cc_v, Nat.reduceMod, Nat.reduceDiv, jx_cl9_i, xk_getf, jx_gf_i, jx_ov_s, ak_V, xe_istore, xe_ifeq, xe_iconst, xi_99999, xe_inv1, xk_iload, jx_iv_i, ak_I, xi_0, xx_0, xe_inv2, xe_return, xe_goto_w, xe_icmp_ge, xe_sta1, xe_ifne, xk_iinc, ak_C, xi_1, xe_goto, xe_icmp_ne, xe_dup, jx_2_i, jx_2_l, jx_2_r, jx_2_n, jx_2_q, or_self, xe_iadd, xk_putf, ak_P, jx_pf_i, jx_pf_z, jx_pf_l, jx_pf_r, jx_pf_n, jx_pf_q, xx_1, jx_s1, List.set_cons_zero, List.set_cons_succ, jx_2_u, jx_2_s, jx_k_i, jx_k_l, jx_k_r, jx_k_n, jx_k_u, jx_k_s, jx_k_q, tw_r, tw_f, tw_s, tw_wo, pN_r, pN_w, pQ_r, pQ_w, tw_w30, tw_w31, tw_w36, va_up_s, s1, dg]
        exact lp
      rw [st]
      cases hF : fd (fun k => wmb (Qb 29) M m (nmw k)) 12 0 with
      | none =>
        refine ⟨m, co, le, ?_⟩
        simp only [eb_76_62, jx_ns_r, jx_ns_n, jx_ns_q, jx_ns_i, jx_gl_0, jx_gl_s, if_true, if_false, ite_true, ite_false, eq_self, Bool.false_eq_true, List.length_cons, List.length_nil, Nat.zero_le, Nat.reduceAdd, Nat.reduceSub, Nat.reduceLeDiff, Nat.reduceLT, Nat.reduceEqDiff, Int.reduceToNat, reduceIte, xe_aload, jx_rv_r, jx_rv_n, jx_rv_q, xe_inv0, jx_cc_i, jx_cc_v, Nat.reduceMod, Nat.reduceDiv, jx_cl9_i, xk_getf, jx_gf_i, jx_ov_s, ak_V, xe_istore, xe_ifeq, xe_iconst, xi_99999, xe_inv1, xk_iload, jx_iv_i, ak_I, xi_0, xx_0, xe_inv2, xe_return, xe_goto_w, xe_icmp_ge, xe_sta1, xe_ifne, xk_iinc, ak_C, xi_1, xe_goto, xe_icmp_ne, xe_dup, jx_2_i, jx_2_l, jx_2_r, jx_2_n, jx_2_q, or_self, xe_iadd, xk_putf, ak_P, jx_pf_i, jx_pf_z, jx_pf_l, jx_pf_r, jx_pf_n, jx_pf_q, xx_1, jx_s1, List.set_cons_zero, List.set_cons_succ, jx_2_u, jx_2_s, jx_k_i, jx_k_l, jx_k_r, jx_k_n, jx_k_u, jx_k_s, jx_k_q, tw_r, tw_f, tw_s, tw_wo, pN_r, pN_w, pQ_r, pQ_w, tw_w30, tw_w31, tw_w36, va_up_s, e28, m_fails, flt_n hf]
      | some kw =>
        have fk := fd_some _ _ _ hF
        have kb : kw < 12 := by omega
        have wmk : wm (Qb 29) M m (nmw kw) := wmb_i.mp fk.2.2
        exact ⟨m + st_n (nmw kw), co + 1, wm_le le wmk, m_value62n hf hs e28 kb⟩
    · intro k _ hk hI
      have h3 : ¬ (12 : Int32) ≤ nI k := nI_ge (a := k) (b := 12) hk (by omega)
      have nb := nmw_b hk
      have s2 := fun d => sd d (nmw k) nb.1
      rw [fd_s hk] at hI
      by_cases r : wm (Qb 29) M m (nmw k)
      · rw [if_pos (wmb_i.mpr r)] at hI
        rw [sp_bl_t r] at s2
        refine .inl ?_
        rw [hI, eb_76_37]
        simp only [jx_ns_r, jx_ns_n, jx_ns_q, jx_ns_i, jx_gl_0, jx_gl_s, if_true, if_false, ite_true, ite_false, eq_self, Bool.false_eq_true, List.length_cons, List.length_nil, Nat.zero_le, Nat.reduceAdd, Nat.reduceSub, Nat.reduceLeDiff, Nat.reduceLT, Nat.reduceEqDiff, Int.reduceToNat, reduceIte, xe_aload, jx_rv_r, jx_rv_n, jx_rv_q, xe_inv0, jx_cc_i, jx_cc_v, Nat.reduceMod, Nat.reduceDiv, jx_cl9_i, xk_getf, jx_gf_i, jx_ov_s, ak_V, xe_istore, xe_ifeq, xe_iconst, xi_99999, xe_inv1, xk_iload, jx_iv_i, ak_I, xi_0, xx_0, xe_inv2, xe_return, xe_goto_w, xe_icmp_ge, xe_sta1, xe_ifne, xk_iinc, ak_C, xi_1, xe_goto, xe_icmp_ne, xe_dup, jx_2_i, jx_2_l, jx_2_r, jx_2_n, jx_2_q, or_self, xe_iadd, xk_putf, ak_P, jx_pf_i, jx_pf_z, jx_pf_l, jx_pf_r, jx_pf_n, jx_pf_q, xx_1, jx_s1, List.set_cons_zero, List.set_cons_succ, jx_2_u, jx_2_s, jx_k_i, jx_k_l, jx_k_r, jx_k_n, jx_k_u, jx_k_s, jx_k_q, tw_r, tw_f, tw_s, tw_wo, pN_r, pN_w, pQ_r, pQ_w, tw_w30, tw_w31, tw_w36, va_up_s, e28, h3, wo _ _ _ hk, s2, sp_10]
      · rw [if_neg (mt wmb_i.mp r)] at hI
        rw [sp_bl_f r] at s2
        refine .inr ⟨(), hI, ?_⟩
        rw [eb_76_37]
        simp only [jx_ns_r, jx_ns_n, jx_ns_q, jx_ns_i, jx_gl_0, jx_gl_s, if_true, if_false, ite_true, ite_false, eq_self, Bool.false_eq_true, List.length_cons, List.length_nil, Nat.zero_le, Nat.reduceAdd, Nat.reduceSub, Nat.reduceLeDiff, Nat.reduceLT, Nat.reduceEqDiff, Int.reduceToNat, reduceIte, xe_aload, jx_rv_r, jx_rv_n, jx_rv_q, xe_inv0, jx_cc_i, jx_cc_v, Nat.reduceMod, Nat.reduceDiv, jx_cl9_i, xk_getf, jx_gf_i, jx_ov_s, ak_V, xe_istore, xe_ifeq, xe_iconst, xi_99999, xe_inv1, xk_iload, jx_iv_i, ak_I, xi_0, xx_0, xe_inv2, xe_return, xe_goto_w, xe_icmp_ge, xe_sta1, xe_ifne, xk_iinc, ak_C, xi_1, xe_goto, xe_icmp_ne, xe_dup, jx_2_i, jx_2_l, jx_2_r, jx_2_n, jx_2_q, or_self, xe_iadd, xk_putf, ak_P, jx_pf_i, jx_pf_z, jx_pf_l, jx_pf_r, jx_pf_n, jx_pf_q, xx_1, jx_s1, List.set_cons_zero, List.set_cons_succ, jx_2_u, jx_2_s, jx_k_i, jx_k_l, jx_k_r, jx_k_n, jx_k_u, jx_k_s, jx_k_q, tw_r, tw_f, tw_s, tw_wo, pN_r, pN_w, pQ_r, pQ_w, tw_w30, tw_w31, tw_w36, va_up_s, e28, h3, wo _ _ _ hk, s2, nI_1]
    · intro _ hI
      have h3 : (12 : Int32) ≤ 12 := by decide
      have e12 : nI 12 = 12 := rfl
      rw [fd_n] at hI
      rw [hI, eb_76_37]
      simp only [jx_ns_r, jx_ns_n, jx_ns_q, jx_ns_i, jx_gl_0, jx_gl_s, if_true, if_false, ite_true, ite_false, eq_self, Bool.false_eq_true, List.length_cons, List.length_nil, Nat.zero_le, Nat.reduceAdd, Nat.reduceSub, Nat.reduceLeDiff, Nat.reduceLT, Nat.reduceEqDiff, Int.reduceToNat, reduceIte, xe_aload, jx_rv_r, jx_rv_n, jx_rv_q, xe_inv0, jx_cc_i, jx_cc_v, Nat.reduceMod, Nat.reduceDiv, jx_cl9_i, xk_getf, jx_gf_i, jx_ov_s, ak_V, xe_istore, xe_ifeq, xe_iconst, xi_99999, xe_inv1, xk_iload, jx_iv_i, ak_I, xi_0, xx_0, xe_inv2, xe_return, xe_goto_w, xe_icmp_ge, xe_sta1, xe_ifne, xk_iinc, ak_C, xi_1, xe_goto, xe_icmp_ne, xe_dup, jx_2_i, jx_2_l, jx_2_r, jx_2_n, jx_2_q, or_self, xe_iadd, xk_putf, ak_P, jx_pf_i, jx_pf_z, jx_pf_l, jx_pf_r, jx_pf_n, jx_pf_q, xx_1, jx_s1, List.set_cons_zero, List.set_cons_succ, jx_2_u, jx_2_s, jx_k_i, jx_k_l, jx_k_r, jx_k_n, jx_k_u, jx_k_s, jx_k_q, tw_r, tw_f, tw_s, tw_wo, pN_r, pN_w, pQ_r, pQ_w, tw_w30, tw_w31, tw_w36, va_up_s, e28, h3, e12]
end PLI
