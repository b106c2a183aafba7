/-! THE TWIN: goes, goFor -/
set_option maxRecDepth 100000
/-- rows when p people are done -/
def tq_gr (o : Int32) (a : Nat → Nat → Int32) (pk : Int32) (p : Nat) (j : Nat) : Nat → Int32 :=
  if j = 7 then cq_fl p (fun p => if cq_th a p < o then cq_th a p else 0) (a 7)
  else if j = 8 then (if pk = -1 then a 8 else cq_fl p (fun p => if cq_th a p < o then a 8 p else a 8 p ||| (1 : Int32) <<< (pk &&& 31)) (a 8))
  else if j = 9 then (if pk = -1 then cq_fl p (fun p => if cq_th a p < o then a 9 p else a 9 p + 1) (a 9) else a 9)
  else a j
theorem upd_self {f : Nat → Int32} {k : Nat} : upd f k (f k) = f := by
  funext j
  simp only [upd]
  by_cases h : j = k
  · rw [if_pos h, h]
  · rw [if_neg h]
theorem upd_upd {f : Nat → Int32} {k : Nat} {x y : Int32} : upd (upd f k x) k y = upd f k y := by
  funext j
  simp only [upd]
  by_cases h : j = k
  · rw [if_pos h, if_pos h]
  · rw [if_neg h, if_neg h, if_neg h]
theorem va_up_up {α : Type} {f : Nat → α} {k : Nat} {x y : α} : va_up (va_up f k x) k y = va_up f k y := by
  funext j
  simp only [va_up]
  by_cases h : j = k
  · rw [if_pos h, if_pos h]
  · rw [if_neg h, if_neg h, if_neg h]
section TE
variable {d : Nat} {h : jx_H} {s : Nat → Int32} {a : Nat → Nat → Int32} {E N : Nat → Int32} {Q : Nat → Nat → Int32} {W : Nat → Nat → Int64} {i k : Int32} {t u v tm pm day now D n m : Nat} {Lo : Option ((Nat → Int64) → Int64)}
variable {pk : Int32}
theorem tm_gl (hpm : pm ≤ 6) (es : s 3 = nI pm) : ∀ n p, p + n = pm → jx_eb (d + 1) 113 9 [.ref 113, .int pk, .int (cq_who (cq_th a) (s 1) p), .int (nI p)] [] (tw h s (tq_gr (s 1) a pk p) E N Q W) = jx_eb (d + 1) 113 118 [.ref 113, .int pk, .int (cq_who (cq_th a) (s 1) pm), .int (nI pm)] [] (tw h s (tq_gr (s 1) a pk pm) E N Q W) := by
  intro n
  induction n with
  | zero =>
    intro p hp
    have : p = pm := by omega
    subst this
    simp only [eb_113_9, jx_ns_r, jx_ns_n, jx_ns_q, jx_ns_i, jx_gl_0, jx_gl_s, if_true, if_false, ite_true, ite_false, eq_self, Bool.false_eq_true, List.length_cons, List.length_nil, Nat.zero_le, Nat.reduceAdd, Nat.reduceSub, Nat.reduceLeDiff, Nat.reduceLT, Nat.reduceEqDiff, Int.reduceToNat, reduceIte, xe_aload, jx_rv_r, jx_rv_n, jx_rv_q, xe_inv0, jx_cc_i, jx_cc_v, Nat.reduceMod, Nat.reduceDiv, jx_cl9_i, xe_istore, xe_iconst, xi_0, xx_0, xe_goto_w, xk_iload, jx_iv_i, ak_I, xk_getf, jx_gf_i, jx_ov_s, ak_V, xi_3, xx_3, xk_iald, ja_ia, ak_A, true_or, or_true, xe_icmp_ge, xe_iadd, xi_999, xe_sta2, xk_iast, ja_is, ak_S, ak_P, xi_1, xx_1, xe_icmp_lt, xe_ishl, xe_ior, xe_dup2, jx_2_i, jx_2_l, jx_2_r, jx_2_n, jx_2_q, or_self, xi_m1, xe_icmp_ne, xe_goto, xk_iinc, ak_C, xe_icmp_eq, xi_5, xx_5, xi_6, xx_6, xi_7, xx_7, xe_ifle, xe_isub, xi_4, xx_4, xe_ireturn, jx_s1, List.set_cons_zero, List.set_cons_succ, jx_2_u, jx_2_s, jx_k_i, jx_k_l, jx_k_r, jx_k_n, jx_k_u, jx_k_s, jx_k_q, tw_r, tw_f, tq_r, va_up_s, es, nI_leI (show p < 2 ^ 31 by omega) (show p < 2 ^ 31 by omega), Nat.le_refl]
  | succ n ih =>
    intro p hp
    have h2 := sp_ix (show p < 6 by omega) (by decide)
    have h3 : ¬ nI pm ≤ nI p := nI_ge (by omega) (by omega)
    have e7 : tq_gr (s 1) a pk p 7 p = a 7 p := by
      simp only [tq_gr, if_true]
      rw [cq_fl_ge (by omega)]
    have e4 : tq_gr (s 1) a pk p 4 = a 4 := rfl
    have e8 : tq_gr (s 1) a pk p 8 p = a 8 p := by
      simp only [tq_gr, reduceIte, Nat.reduceEqDiff]
      split
      · rfl
      · rw [cq_fl_ge (by omega)]
    have e9 : tq_gr (s 1) a pk p 9 p = a 9 p := by
      simp only [tq_gr, reduceIte, Nat.reduceEqDiff]
      split
      · rw [cq_fl_ge (by omega)]
      · rfl
    have em : (if 999 < a 7 p + a 4 p then 999 else a 7 p + a 4 p) = cq_th a p := tq_mn
    rw [← ih (p + 1) (by omega), eb_113_9]
    by_cases q : cq_th a p < s 1
    · have eZ : va_up (tq_gr (s 1) a pk p) 7 (upd (tq_gr (s 1) a pk p 7) p (cq_th a p)) = tq_gr (s 1) a pk (p + 1) := by
        funext j
        simp only [va_up]
        by_cases j7 : j = 7
        · subst j7
          simp only [tq_gr, if_true, ← cq_fl_s, q]
        · rw [if_neg j7]
          simp only [tq_gr, j7, if_false]
          rw [← cq_fl_k (n := p) (g := a 8) (by rw [if_pos q]), ← cq_fl_k (n := p) (g := a 9) (by rw [if_pos q])]
      have e7' : tq_gr (s 1) a pk (p + 1) 7 p = cq_th a p := by
        simp only [tq_gr, if_true]
        rw [cq_fl_lt (by omega), if_pos q]
      simp only [eb_113_112, jx_ns_r, jx_ns_n, jx_ns_q, jx_ns_i, jx_gl_0, jx_gl_s, if_true, if_false, ite_true, ite_false, eq_self, Bool.false_eq_true, List.length_cons, List.length_nil, Nat.zero_le, Nat.reduceAdd, Nat.reduceSub, Nat.reduceLeDiff, Nat.reduceLT, Nat.reduceEqDiff, Int.reduceToNat, reduceIte, xe_aload, jx_rv_r, jx_rv_n, jx_rv_q, xe_inv0, jx_cc_i, jx_cc_v, Nat.reduceMod, Nat.reduceDiv, jx_cl9_i, xe_istore, xe_iconst, xi_0, xx_0, xe_goto_w, xk_iload, jx_iv_i, ak_I, xk_getf, jx_gf_i, jx_ov_s, ak_V, xi_3, xx_3, xk_iald, ja_ia, ak_A, true_or, or_true, xe_icmp_ge, xe_iadd, xi_999, xe_sta2, xk_iast, ja_is, ak_S, ak_P, xi_1, xx_1, xe_icmp_lt, xe_ishl, xe_ior, xe_dup2, jx_2_i, jx_2_l, jx_2_r, jx_2_n, jx_2_q, or_self, xi_m1, xe_icmp_ne, xe_goto, xk_iinc, ak_C, xe_icmp_eq, xi_5, xx_5, xi_6, xx_6, xi_7, xx_7, xe_ifle, xe_isub, xi_4, xx_4, xe_ireturn, jx_s1, List.set_cons_zero, List.set_cons_succ, jx_2_u, jx_2_s, jx_k_i, jx_k_l, jx_k_r, jx_k_n, jx_k_u, jx_k_s, jx_k_q, tw_r, tw_f, tw_s, tq_r, tq_w, tw_wo, tw_wsc, tq_ile_u, tq_ilo_u, va_up_s, tw_w2, tw_w3, tw_w4, tw_w5, tw_w6, tw_w7, tw_w8, tw_w9, tw_w10, tw_w11, tw_w12, tw_w13, tw_w14, tw_w15, tw_w16, tw_w17, tw_w18, tw_w29, tw_w30, tw_w31, tw_w32, tw_w33, tw_w34, tw_w35, tw_w36, tw_w37, tw_w38, tw_w39, tw_w40, tw_w44, tw_w45, tw_w46, tw_w47, tw_w48, tw_w49, tw_w50, es, h2, h3, e7, e4, e7', tq_upTo, em, upd_s, q, nI_1, cq_who, eZ]
    · have u1 : ∀ f g : Nat → Int32, va_up (va_up (tq_gr (s 1) a pk p) 7 f) 7 g = va_up (tq_gr (s 1) a pk p) 7 g := fun f g => va_up_up
      by_cases r : pk = -1
      · have eZ : va_up (va_up (va_up (tq_gr (s 1) a pk p) 7 (upd (tq_gr (s 1) a pk p 7) p 0)) 8 (tq_gr (s 1) a pk p 8)) 9 (upd (tq_gr (s 1) a pk p 9) p (a 9 p + 1)) = tq_gr (s 1) a pk (p + 1) := by
          funext j
          simp only [va_up]
          by_cases j9 : j = 9
          · subst j9
            simp only [tq_gr, if_true, if_false, reduceIte, Nat.reduceEqDiff, r, ← cq_fl_s, q]
          · rw [if_neg j9]
            by_cases j8 : j = 8
            · subst j8
              simp only [tq_gr, if_true, if_false, reduceIte, Nat.reduceEqDiff, r]
            · rw [if_neg j8]
              by_cases j7 : j = 7
              · subst j7
                simp only [tq_gr, if_true, ← cq_fl_s, q, if_false]
              · rw [if_neg j7]
                simp only [tq_gr, j7, j8, j9, if_false]
        have o0 : a 8 p ||| 0 = a 8 p := Int32.or_zero
        have us : upd (tq_gr (s 1) a pk p 8) p (a 8 p) = tq_gr (s 1) a pk p 8 := by rw [← e8, upd_self]
        rw [r] at eZ e7 e4 e8 e9 us u1 ⊢
        simp only [eb_113_91, eb_113_109, eb_113_110, eb_113_112, jx_ns_r, jx_ns_n, jx_ns_q, jx_ns_i, jx_gl_0, jx_gl_s, if_true, if_false, ite_true, ite_false, eq_self, Bool.false_eq_true, List.length_cons, List.length_nil, Nat.zero_le, Nat.reduceAdd, Nat.reduceSub, Nat.reduceLeDiff, Nat.reduceLT, Nat.reduceEqDiff, Int.reduceToNat, reduceIte, xe_aload, jx_rv_r, jx_rv_n, jx_rv_q, xe_inv0, jx_cc_i, jx_cc_v, Nat.reduceMod, Nat.reduceDiv, jx_cl9_i, xe_istore, xe_iconst, xi_0, xx_0, xe_goto_w, xk_iload, jx_iv_i, ak_I, xk_getf, jx_gf_i, jx_ov_s, ak_V, xi_3, xx_3, xk_iald, ja_ia, ak_A, true_or, or_true, xe_icmp_ge, xe_iadd, xi_999, xe_sta2, xk_iast, ja_is, ak_S, ak_P, xi_1, xx_1, xe_icmp_lt, xe_ishl, xe_ior, xe_dup2, jx_2_i, jx_2_l, jx_2_r, jx_2_n, jx_2_q, or_self, xi_m1, xe_icmp_ne, xe_goto, xk_iinc, ak_C, xe_icmp_eq, xi_5, xx_5, xi_6, xx_6, xi_7, xx_7, xe_ifle, xe_isub, xi_4, xx_4, xe_ireturn, jx_s1, List.set_cons_zero, List.set_cons_succ, jx_2_u, jx_2_s, jx_k_i, jx_k_l, jx_k_r, jx_k_n, jx_k_u, jx_k_s, jx_k_q, tw_r, tw_f, tw_s, tq_r, tq_w, tw_wo, tw_wsc, tq_ile_u, tq_ilo_u, va_up_s, tw_w2, tw_w3, tw_w4, tw_w5, tw_w6, tw_w7, tw_w8, tw_w9, tw_w10, tw_w11, tw_w12, tw_w13, tw_w14, tw_w15, tw_w16, tw_w17, tw_w18, tw_w29, tw_w30, tw_w31, tw_w32, tw_w33, tw_w34, tw_w35, tw_w36, tw_w37, tw_w38, tw_w39, tw_w40, tw_w44, tw_w45, tw_w46, tw_w47, tw_w48, tw_w49, tw_w50, es, h2, h3, e7, e4, e8, e9, tq_upTo, em, upd_s, upd_upd, va_up_up, q, nI_1, cq_who, o0, us, eZ]
      · have eZ : va_up (va_up (va_up (tq_gr (s 1) a pk p) 7 (upd (tq_gr (s 1) a pk p 7) p 0)) 8 (upd (tq_gr (s 1) a pk p 8) p (a 8 p ||| (1 : Int32) <<< (pk &&& 31)))) 9 (tq_gr (s 1) a pk p 9) = tq_gr (s 1) a pk (p + 1) := by
          funext j
          simp only [va_up]
          by_cases j9 : j = 9
          · subst j9
            simp only [tq_gr, if_true, if_false, reduceIte, Nat.reduceEqDiff, r]
          · rw [if_neg j9]
            by_cases j8 : j = 8
            · subst j8
              simp only [tq_gr, if_true, if_false, reduceIte, Nat.reduceEqDiff, r, ← cq_fl_s, q]
            · rw [if_neg j8]
              by_cases j7 : j = 7
              · subst j7
                simp only [tq_gr, if_true, ← cq_fl_s, q, if_false]
              · rw [if_neg j7]
                simp only [tq_gr, j7, j8, j9, if_false]
        have o0 : a 9 p + 0 = a 9 p := Int32.add_zero _
        have us : upd (tq_gr (s 1) a pk p 9) p (a 9 p) = tq_gr (s 1) a pk p 9 := by rw [← e9, upd_self]
        simp only [eb_113_88, eb_113_91, eb_113_109, eb_113_110, eb_113_112, jx_ns_r, jx_ns_n, jx_ns_q, jx_ns_i, jx_gl_0, jx_gl_s, if_true, if_false, ite_true, ite_false, eq_self, Bool.false_eq_true, List.length_cons, List.length_nil, Nat.zero_le, Nat.reduceAdd, Nat.reduceSub, Nat.reduceLeDiff, Nat.reduceLT, Nat.reduceEqDiff, Int.reduceToNat, reduceIte, xe_aload, jx_rv_r, jx_rv_n, jx_rv_q, xe_inv0, jx_cc_i, jx_cc_v, Nat.reduceMod, Nat.reduceDiv, jx_cl9_i, xe_istore, xe_iconst, xi_0, xx_0, xe_goto_w, xk_iload, jx_iv_i, ak_I, xk_getf, jx_gf_i, jx_ov_s, ak_V, xi_3, xx_3, xk_iald, ja_ia, ak_A, true_or, or_true, xe_icmp_ge, xe_iadd, xi_999, xe_sta2, xk_iast, ja_is, ak_S, ak_P, xi_1, xx_1, xe_icmp_lt, xe_ishl, xe_ior, xe_dup2, jx_2_i, jx_2_l, jx_2_r, jx_2_n, jx_2_q, or_self, xi_m1, xe_icmp_ne, xe_goto, xk_iinc, ak_C, xe_icmp_eq, xi_5, xx_5, xi_6, xx_6, xi_7, xx_7, xe_ifle, xe_isub, xi_4, xx_4, xe_ireturn, jx_s1, List.set_cons_zero, List.set_cons_succ, jx_2_u, jx_2_s, jx_k_i, jx_k_l, jx_k_r, jx_k_n, jx_k_u, jx_k_s, jx_k_q, tw_r, tw_f, tw_s, tq_r, tq_w, tw_wo, tw_wsc, tq_ile_u, tq_ilo_u, va_up_s, tw_w2, tw_w3, tw_w4, tw_w5, tw_w6, tw_w7, tw_w8, tw_w9, tw_w10, tw_w11, tw_w12, tw_w13, tw_w14, tw_w15, tw_w16, tw_w17, tw_w18, tw_w29, tw_w30, tw_w31, tw_w32, tw_w33, tw_w34, tw_w35, tw_w36, tw_w37, tw_w38, tw_w39, tw_w40, tw_w44, tw_w45, tw_w46, tw_w47, tw_w48, tw_w49, tw_w50, es, h2, h3, e7, e4, e8, e9, tq_upTo, em, upd_s, upd_upd, va_up_up, q, r, nI_1, cq_who, o0, us, eZ]
theorem tm_goes (iv : cq_iv s a day tm pm now) (hn : now < 2 ^ 31) (hL : tq_lw (D + 2) (E 1) Q Lo) : ∃ W', jx_cr (d + D + 5) 113 [.ref 113] (tw h s a E N Q W) = some (.inl (some (.int (cq_ws s a))), tw h (cq_go Lo (s, a)).1 (cq_go Lo (s, a)).2 E N Q W') := by
  obtain ⟨W1, eh⟩ := tm_holds (d := d) (h := h) (s := s) (a := a) (E := E) (N := N) (Q := Q) (W := W) iv hn hL
  have hp := cq_pk_pt (Lo := Lo) iv hn
  obtain ⟨e0, d1, d2, e2, t6, e3, p6, e7, h8, h9, hg, hr⟩ := iv
  have hp6 := cq_pt_6 hp t6
  rw [cq_ws, cq_go]
  simp only [e3, nI_clamp (show pm < 2 ^ 31 by omega)]
  generalize cq_pk Lo s a = pk at *
  have l := tm_gl (d := d + D + 3) (h := h) (s := s) (a := a) (E := E) (N := N) (Q := Q) (W := W1) (pk := pk) p6 e3 pm 0 (by omega)
  have g0 : tq_gr (s 1) a pk 0 = a := by
    funext j
    simp only [tq_gr, cq_fl_0, ite_self]
    by_cases j7 : j = 7
    · rw [if_pos j7, j7]
    · rw [if_neg j7]
      by_cases j8 : j = 8
      · rw [if_pos j8, j8]
      · rw [if_neg j8]
        by_cases j9 : j = 9
        · rw [if_pos j9, j9]
        · rw [if_neg j9]
  rw [g0, nI_0, cq_who] at l
  have eg : s 10 - (if 0 < s 10 then 1 else 0) = if 0 < s 10 - 1 then s 10 - 1 else 0 := by
    obtain ⟨g, g9, e⟩ := hg
    rw [e]
    rcases (by omega : g = 0 ∨ g = 1 ∨ g = 2 ∨ g = 3 ∨ g = 4 ∨ g = 5 ∨ g = 6 ∨ g = 7 ∨ g = 8 ∨ g = 9) with q | q | q | q | q | q | q | q | q | q <;> subst q <;> decide
  have hle : s 10 ≤ 0 ↔ ¬ 0 < s 10 := Int32.not_lt.symm
  have eS : va_up (va_up (va_up (va_up s 8 pk) 9 (-1)) 10 (if 0 < s 10 - 1 then s 10 - 1 else 0)) 7 (s 7 + 1) = cq_pss s pk := by
    funext k
    simp only [va_up, cq_pss]
    by_cases q7 : k = 7
    · rw [if_pos q7, if_pos q7]
    · rw [if_neg q7, if_neg q7]
      by_cases q10 : k = 10
      · subst q10; simp only [reduceIte, Nat.reduceEqDiff]
      · rw [if_neg q10]
        by_cases q9 : k = 9
        · subst q9; simp only [reduceIte, Nat.reduceEqDiff]
        · rw [if_neg q9, if_neg q9, if_neg q10]
  have g6 : tq_gr (s 1) a pk pm 6 = a 6 := rfl
  generalize (if 0 < s 10 - 1 then s 10 - 1 else 0) = v10 at eg eS
  refine ⟨W1, ?_⟩
  rcases hp6 with hp | ⟨t, ht, hp⟩
  · have eA : tq_gr (s 1) a pk pm = cq_psa s a pm pk := by
      funext j
      simp only [tq_gr, cq_psa, hp, if_true]
      by_cases j6 : j = 6
      · subst j6; rfl
      · rw [if_neg j6]
    rw [eA, hp] at l
    rw [hp] at eS eh ⊢
    simp only [cr_113, eb_113_0, jx_ns_r, jx_ns_n, jx_ns_q, jx_ns_i, jx_gl_0, jx_gl_s, if_true, if_false, ite_true, ite_false, eq_self, Bool.false_eq_true, List.length_cons, List.length_nil, Nat.zero_le, Nat.reduceAdd, Nat.reduceSub, Nat.reduceLeDiff, Nat.reduceLT, Nat.reduceEqDiff, Int.reduceToNat, reduceIte, xe_aload, jx_rv_r, jx_rv_n, jx_rv_q, xe_inv0, jx_cc_i, jx_cc_v, Nat.reduceMod, Nat.reduceDiv, jx_cl9_i, xe_istore, xe_iconst, xi_0, xx_0, xe_goto_w, xk_iload, jx_iv_i, ak_I, xk_getf, jx_gf_i, jx_ov_s, ak_V, xi_3, xx_3, xk_iald, ja_ia, ak_A, true_or, or_true, xe_icmp_ge, xe_iadd, xi_999, xe_sta2, xk_iast, ja_is, ak_S, ak_P, xi_1, xx_1, xe_icmp_lt, xe_ishl, xe_ior, xe_dup2, jx_2_i, jx_2_l, jx_2_r, jx_2_n, jx_2_q, or_self, xi_m1, xe_icmp_ne, xe_goto, xk_iinc, ak_C, xe_icmp_eq, xi_5, xx_5, xi_6, xx_6, xi_7, xx_7, xe_ifle, xe_isub, xi_4, xx_4, xe_ireturn, jx_s1, List.set_cons_zero, List.set_cons_succ, jx_2_u, jx_2_s, jx_k_i, jx_k_l, jx_k_r, jx_k_n, jx_k_u, jx_k_s, jx_k_q, eh, l]
    by_cases q : 0 < s 10
    · rw [if_pos q] at eg
      simp only [eb_113_118, eb_113_133, eb_113_170, eb_113_171, jx_ns_r, jx_ns_n, jx_ns_q, jx_ns_i, jx_gl_0, jx_gl_s, if_true, if_false, ite_true, ite_false, eq_self, Bool.false_eq_true, List.length_cons, List.length_nil, Nat.zero_le, Nat.reduceAdd, Nat.reduceSub, Nat.reduceLeDiff, Nat.reduceLT, Nat.reduceEqDiff, Int.reduceToNat, reduceIte, xe_aload, jx_rv_r, jx_rv_n, jx_rv_q, xe_inv0, jx_cc_i, jx_cc_v, Nat.reduceMod, Nat.reduceDiv, jx_cl9_i, xe_istore, xe_iconst, xi_0, xx_0, xe_goto_w, xk_iload, jx_iv_i, ak_I, xk_getf, jx_gf_i, jx_ov_s, ak_V, xi_3, xx_3, xk_iald, ja_ia, ak_A, true_or, or_true, xe_icmp_ge, xe_iadd, xi_999, xe_sta2, xk_iast, ja_is, ak_S, ak_P, xi_1, xx_1, xe_icmp_lt, xe_ishl, xe_ior, xe_dup2, jx_2_i, jx_2_l, jx_2_r, jx_2_n, jx_2_q, or_self, xi_m1, xe_icmp_ne, xe_goto, xk_iinc, ak_C, xe_icmp_eq, xi_5, xx_5, xi_6, xx_6, xi_7, xx_7, xe_ifle, xe_isub, xi_4, xx_4, xe_ireturn, jx_s1, List.set_cons_zero, List.set_cons_succ, jx_2_u, jx_2_s, jx_k_i, jx_k_l, jx_k_r, jx_k_n, jx_k_u, jx_k_s, jx_k_q, tw_r, tw_f, tw_s, tq_r, tq_w, tw_wo, tw_wsc, tq_ile_u, tq_ilo_u, va_up_s, tw_w2, tw_w3, tw_w4, tw_w5, tw_w6, tw_w7, tw_w8, tw_w9, tw_w10, tw_w11, tw_w12, tw_w13, tw_w14, tw_w15, tw_w16, tw_w17, tw_w18, tw_w29, tw_w30, tw_w31, tw_w32, tw_w33, tw_w34, tw_w35, tw_w36, tw_w37, tw_w38, tw_w39, tw_w40, tw_w44, tw_w45, tw_w46, tw_w47, tw_w48, tw_w49, tw_w50, hle, q, eg, reduceIte, Nat.reduceEqDiff, not_true, not_false_eq_true, eS]
    · rw [if_neg q] at eg
      simp only [eb_113_118, eb_113_133, eb_113_170, eb_113_171, jx_ns_r, jx_ns_n, jx_ns_q, jx_ns_i, jx_gl_0, jx_gl_s, if_true, if_false, ite_true, ite_false, eq_self, Bool.false_eq_true, List.length_cons, List.length_nil, Nat.zero_le, Nat.reduceAdd, Nat.reduceSub, Nat.reduceLeDiff, Nat.reduceLT, Nat.reduceEqDiff, Int.reduceToNat, reduceIte, xe_aload, jx_rv_r, jx_rv_n, jx_rv_q, xe_inv0, jx_cc_i, jx_cc_v, Nat.reduceMod, Nat.reduceDiv, jx_cl9_i, xe_istore, xe_iconst, xi_0, xx_0, xe_goto_w, xk_iload, jx_iv_i, ak_I, xk_getf, jx_gf_i, jx_ov_s, ak_V, xi_3, xx_3, xk_iald, ja_ia, ak_A, true_or, or_true, xe_icmp_ge, xe_iadd, xi_999, xe_sta2, xk_iast, ja_is, ak_S, ak_P, xi_1, xx_1, xe_icmp_lt, xe_ishl, xe_ior, xe_dup2, jx_2_i, jx_2_l, jx_2_r, jx_2_n, jx_2_q, or_self, xi_m1, xe_icmp_ne, xe_goto, xk_iinc, ak_C, xe_icmp_eq, xi_5, xx_5, xi_6, xx_6, xi_7, xx_7, xe_ifle, xe_isub, xi_4, xx_4, xe_ireturn, jx_s1, List.set_cons_zero, List.set_cons_succ, jx_2_u, jx_2_s, jx_k_i, jx_k_l, jx_k_r, jx_k_n, jx_k_u, jx_k_s, jx_k_q, tw_r, tw_f, tw_s, tq_r, tq_w, tw_wo, tw_wsc, tq_ile_u, tq_ilo_u, va_up_s, tw_w2, tw_w3, tw_w4, tw_w5, tw_w6, tw_w7, tw_w8, tw_w9, tw_w10, tw_w11, tw_w12, tw_w13, tw_w14, tw_w15, tw_w16, tw_w17, tw_w18, tw_w29, tw_w30, tw_w31, tw_w32, tw_w33, tw_w34, tw_w35, tw_w36, tw_w37, tw_w38, tw_w39, tw_w40, tw_w44, tw_w45, tw_w46, tw_w47, tw_w48, tw_w49, tw_w50, hle, q, eg, reduceIte, Nat.reduceEqDiff, not_true, not_false_eq_true, eS]
  · have hn : ¬ pk = -1 := by
      intro q
      rw [hp] at q
      have := congrArg Int32.toInt q
      rw [nI_toInt (by omega)] at this
      have h2 : (-1 : Int32).toInt = -1 := rfl
      omega
    have iT : jx_ix pk 6 = some t := by rw [hp]; exact sp_ix ht (by decide)
    have eA : va_up (tq_gr (s 1) a pk pm) 6 (upd (a 6) t (a 6 t + 1)) = cq_psa s a pm pk := by
      funext j
      simp only [va_up, tq_gr, cq_psa, hn, if_false]
      by_cases j6 : j = 6
      · rw [if_pos j6, if_pos j6, hp, nI_clamp (by omega)]
      · rw [if_neg j6, if_neg j6]
    simp only [cr_113, eb_113_0, jx_ns_r, jx_ns_n, jx_ns_q, jx_ns_i, jx_gl_0, jx_gl_s, if_true, if_false, ite_true, ite_false, eq_self, Bool.false_eq_true, List.length_cons, List.length_nil, Nat.zero_le, Nat.reduceAdd, Nat.reduceSub, Nat.reduceLeDiff, Nat.reduceLT, Nat.reduceEqDiff, Int.reduceToNat, reduceIte, xe_aload, jx_rv_r, jx_rv_n, jx_rv_q, xe_inv0, jx_cc_i, jx_cc_v, Nat.reduceMod, Nat.reduceDiv, jx_cl9_i, xe_istore, xe_iconst, xi_0, xx_0, xe_goto_w, xk_iload, jx_iv_i, ak_I, xk_getf, jx_gf_i, jx_ov_s, ak_V, xi_3, xx_3, xk_iald, ja_ia, ak_A, true_or, or_true, xe_icmp_ge, xe_iadd, xi_999, xe_sta2, xk_iast, ja_is, ak_S, ak_P, xi_1, xx_1, xe_icmp_lt, xe_ishl, xe_ior, xe_dup2, jx_2_i, jx_2_l, jx_2_r, jx_2_n, jx_2_q, or_self, xi_m1, xe_icmp_ne, xe_goto, xk_iinc, ak_C, xe_icmp_eq, xi_5, xx_5, xi_6, xx_6, xi_7, xx_7, xe_ifle, xe_isub, xi_4, xx_4, xe_ireturn, jx_s1, List.set_cons_zero, List.set_cons_succ, jx_2_u, jx_2_s, jx_k_i, jx_k_l, jx_k_r, jx_k_n, jx_k_u, jx_k_s, jx_k_q, eh, l]
    by_cases q : 0 < s 10
    · rw [if_pos q] at eg
      simp only [eb_113_118, eb_113_133, eb_113_170, eb_113_171, jx_ns_r, jx_ns_n, jx_ns_q, jx_ns_i, jx_gl_0, jx_gl_s, if_true, if_false, ite_true, ite_false, eq_self, Bool.false_eq_true, List.length_cons, List.length_nil, Nat.zero_le, Nat.reduceAdd, Nat.reduceSub, Nat.reduceLeDiff, Nat.reduceLT, Nat.reduceEqDiff, Int.reduceToNat, reduceIte, xe_aload, jx_rv_r, jx_rv_n, jx_rv_q, xe_inv0, jx_cc_i, jx_cc_v, Nat.reduceMod, Nat.reduceDiv, jx_cl9_i, xe_istore, xe_iconst, xi_0, xx_0, xe_goto_w, xk_iload, jx_iv_i, ak_I, xk_getf, jx_gf_i, jx_ov_s, ak_V, xi_3, xx_3, xk_iald, ja_ia, ak_A, true_or, or_true, xe_icmp_ge, xe_iadd, xi_999, xe_sta2, xk_iast, ja_is, ak_S, ak_P, xi_1, xx_1, xe_icmp_lt, xe_ishl, xe_ior, xe_dup2, jx_2_i, jx_2_l, jx_2_r, jx_2_n, jx_2_q, or_self, xi_m1, xe_icmp_ne, xe_goto, xk_iinc, ak_C, xe_icmp_eq, xi_5, xx_5, xi_6, xx_6, xi_7, xx_7, xe_ifle, xe_isub, xi_4, xx_4, xe_ireturn, jx_s1, List.set_cons_zero, List.set_cons_succ, jx_2_u, jx_2_s, jx_k_i, jx_k_l, jx_k_r, jx_k_n, jx_k_u, jx_k_s, jx_k_q, tw_r, tw_f, tw_s, tq_r, tq_w, tw_wo, tw_wsc, tq_ile_u, tq_ilo_u, va_up_s, tw_w2, tw_w3, tw_w4, tw_w5, tw_w6, tw_w7, tw_w8, tw_w9, tw_w10, tw_w11, tw_w12, tw_w13, tw_w14, tw_w15, tw_w16, tw_w17, tw_w18, tw_w29, tw_w30, tw_w31, tw_w32, tw_w33, tw_w34, tw_w35, tw_w36, tw_w37, tw_w38, tw_w39, tw_w40, tw_w44, tw_w45, tw_w46, tw_w47, tw_w48, tw_w49, tw_w50, hn, iT, g6, hle, q, eg, reduceIte, Nat.reduceEqDiff, not_true, not_false_eq_true, eA, eS]
    · rw [if_neg q] at eg
      simp only [eb_113_118, eb_113_133, eb_113_170, eb_113_171, jx_ns_r, jx_ns_n, jx_ns_q, jx_ns_i, jx_gl_0, jx_gl_s, if_true, if_false, ite_true, ite_false, eq_self, Bool.false_eq_true, List.length_cons, List.length_nil, Nat.zero_le, Nat.reduceAdd, Nat.reduceSub, Nat.reduceLeDiff, Nat.reduceLT, Nat.reduceEqDiff, Int.reduceToNat, reduceIte, xe_aload, jx_rv_r, jx_rv_n, jx_rv_q, xe_inv0, jx_cc_i, jx_cc_v, Nat.reduceMod, Nat.reduceDiv, jx_cl9_i, xe_istore, xe_iconst, xi_0, xx_0, xe_goto_w, xk_iload, jx_iv_i, ak_I, xk_getf, jx_gf_i, jx_ov_s, ak_V, xi_3, xx_3, xk_iald, ja_ia, ak_A, true_or, or_true, xe_icmp_ge, xe_iadd, xi_999, xe_sta2, xk_iast, ja_is, ak_S, ak_P, xi_1, xx_1, xe_icmp_lt, xe_ishl, xe_ior, xe_dup2, jx_2_i, jx_2_l, jx_2_r, jx_2_n, jx_2_q, or_self, xi_m1, xe_icmp_ne, xe_goto, xk_iinc, ak_C, xe_icmp_eq, xi_5, xx_5, xi_6, xx_6, xi_7, xx_7, xe_ifle, xe_isub, xi_4, xx_4, xe_ireturn, jx_s1, List.set_cons_zero, List.set_cons_succ, jx_2_u, jx_2_s, jx_k_i, jx_k_l, jx_k_r, jx_k_n, jx_k_u, jx_k_s, jx_k_q, tw_r, tw_f, tw_s, tq_r, tq_w, tw_wo, tw_wsc, tq_ile_u, tq_ilo_u, va_up_s, tw_w2, tw_w3, tw_w4, tw_w5, tw_w6, tw_w7, tw_w8, tw_w9, tw_w10, tw_w11, tw_w12, tw_w13, tw_w14, tw_w15, tw_w16, tw_w17, tw_w18, tw_w29, tw_w30, tw_w31, tw_w32, tw_w33, tw_w34, tw_w35, tw_w36, tw_w37, tw_w38, tw_w39, tw_w40, tw_w44, tw_w45, tw_w46, tw_w47, tw_w48, tw_w49, tw_w50, hn, iT, g6, hle, q, eg, reduceIte, Nat.reduceEqDiff, not_true, not_false_eq_true, eA, eS]
theorem tm_goFor (iv : cq_iv s a day tm pm now) (hn : now + n < 2 ^ 31) (hL : tq_lw (D + 2) (E 1) Q Lo) : ∃ W', jx_cr (d + D + 6) 114 [.ref 113, .int (nI n)] (tw h s a E N Q W) = some (.inl none, tw h (cq_gn Lo n (s, a)).1 (cq_gn Lo n (s, a)).2 E N Q W') := by
  have key := jx_lp (d := d + D + 5) (y := 114) (L := 2) (n := n) (γ := Nat → Nat → Int64) (ls := fun m _ => [.ref 113, .int (nI n), .int (nI m)]) (H := fun m W => tw h (cq_gn Lo m (s, a)).1 (cq_gn Lo m (s, a)).2 E N Q W)
    (I := fun _ _ => True)
    (G := fun r => ∃ W', r = some (.inl none, tw h (cq_gn Lo n (s, a)).1 (cq_gn Lo n (s, a)).2 E N Q W')) ?_ ?_ n 0 W (by omega) trivial
  · obtain ⟨W', e⟩ := key
    refine ⟨W', ?_⟩
    rw [nI_0] at e
    simp only [cr_114, eb_114_0, jx_ns_r, jx_ns_n, jx_ns_q, jx_ns_i, jx_gl_0, jx_gl_s, if_true, if_false, ite_true, ite_false, eq_self, Bool.false_eq_true, List.length_cons, List.length_nil, Nat.zero_le, Nat.reduceAdd, Nat.reduceSub, Nat.reduceLeDiff, Nat.reduceLT, Nat.reduceEqDiff, Int.reduceToNat, reduceIte, xe_iconst, xi_0, xx_0, xe_istore, xe_goto_w, xk_iload, jx_iv_i, ak_I, xe_icmp_ge, xe_aload, jx_rv_r, jx_rv_n, jx_rv_q, xe_inv0, jx_cc_i, jx_cc_v, Nat.reduceMod, Nat.reduceDiv, jx_cl9_i, xe_pop, jx_2_i, jx_2_l, jx_2_r, jx_2_n, jx_2_q, or_self, xk_iinc, ak_C, xi_1, xe_goto, xe_return, jx_s1, List.set_cons_zero, List.set_cons_succ, jx_2_u, jx_2_s, jx_k_i, jx_k_l, jx_k_r, jx_k_n, jx_k_u, jx_k_s, jx_k_q]
    exact e
  · intro m W hm _
    have h3 : ¬ nI n ≤ nI m := nI_ge hm (by omega)
    obtain ⟨W1, e1⟩ := tm_goes (d := d) (h := h) (E := E) (N := N) (Q := Q) (W := W) (cq_iv_gn (n := m) (Lo := Lo) iv (by omega)) (by omega) hL
    refine .inr ⟨W1, trivial, ?_⟩
    rw [eb_114_2]
    simp only [jx_ns_r, jx_ns_n, jx_ns_q, jx_ns_i, jx_gl_0, jx_gl_s, if_true, if_false, ite_true, ite_false, eq_self, Bool.false_eq_true, List.length_cons, List.length_nil, Nat.zero_le, Nat.reduceAdd, Nat.reduceSub, Nat.reduceLeDiff, Nat.reduceLT, Nat.reduceEqDiff, Int.reduceToNat, reduceIte, xe_iconst, xi_0, xx_0, xe_istore, xe_goto_w, xk_iload, jx_iv_i, ak_I, xe_icmp_ge, xe_aload, jx_rv_r, jx_rv_n, jx_rv_q, xe_inv0, jx_cc_i, jx_cc_v, Nat.reduceMod, Nat.reduceDiv, jx_cl9_i, xe_pop, jx_2_i, jx_2_l, jx_2_r, jx_2_n, jx_2_q, or_self, xk_iinc, ak_C, xi_1, xe_goto, xe_return, jx_s1, List.set_cons_zero, List.set_cons_succ, jx_2_u, jx_2_s, jx_k_i, jx_k_l, jx_k_r, jx_k_n, jx_k_u, jx_k_s, jx_k_q, tw_r, tw_f, tq_r, va_up_s, h3, e1, nI_1]
    rfl
  · intro W _
    have h3 : nI n ≤ nI n := (nI_leI (by omega) (by omega)).mpr (Nat.le_refl _)
    exact ⟨W, by simp only [eb_114_2, eb_114_18, jx_ns_r, jx_ns_n, jx_ns_q, jx_ns_i, jx_gl_0, jx_gl_s, if_true, if_false, ite_true, ite_false, eq_self, Bool.false_eq_true, List.length_cons, List.length_nil, Nat.zero_le, Nat.reduceAdd, Nat.reduceSub, Nat.reduceLeDiff, Nat.reduceLT, Nat.reduceEqDiff, Int.reduceToNat, reduceIte, xe_iconst, xi_0, xx_0, xe_istore, xe_goto_w, xk_iload, jx_iv_i, ak_I, xe_icmp_ge, xe_aload, jx_rv_r, jx_rv_n, jx_rv_q, xe_inv0, jx_cc_i, jx_cc_v, Nat.reduceMod, Nat.reduceDiv, jx_cl9_i, xe_pop, jx_2_i, jx_2_l, jx_2_r, jx_2_n, jx_2_q, or_self, xk_iinc, ak_C, xi_1, xe_goto, xe_return, jx_s1, List.set_cons_zero, List.set_cons_succ, jx_2_u, jx_2_s, jx_k_i, jx_k_l, jx_k_r, jx_k_n, jx_k_u, jx_k_s, jx_k_q, h3]⟩
end TE
