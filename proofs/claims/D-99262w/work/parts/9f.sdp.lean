/-! TEXTS: the court that is read into; whether a line can be -/
set_option maxRecDepth 100000
section SWQ
variable {h : jx_H} {cu : Option Nat} {F : Nat → Int32} {o p q z C : cq_C} {T : List Value} {x : Int32 × Int32} {ru im : Nat → Option Nat} {tp : Nat → Int32} {R : Nat → Nat → Int32} {s s' : Nat → Int32} {a : Nat → Nat → Int32} {w w' : Nat → Int64} {f : Nat → Int32}
theorem sw_rq : (sw h cu F o p (s, a, w) z T x ru im tp R).1 75 = .inr (1, cq_ob 75 s) ∧ (sw h cu F o p (s, a, w) z T x ru im tp R).1 76 = .inl (0, 6, .inl (a 0)) ∧ (sw h cu F o p (s, a, w) z T x ru im tp R).1 77 = .inl (0, 12, .inl (a 1)) ∧ (sw h cu F o p (s, a, w) z T x ru im tp R).1 78 = .inl (0, 6, .inl (a 2)) ∧ (sw h cu F o p (s, a, w) z T x ru im tp R).1 79 = .inl (0, 6, .inl (a 3)) ∧ (sw h cu F o p (s, a, w) z T x ru im tp R).1 80 = .inl (0, 6, .inl (a 4)) ∧ (sw h cu F o p (s, a, w) z T x ru im tp R).1 81 = .inl (0, 20, .inl (a 5)) ∧ (sw h cu F o p (s, a, w) z T x ru im tp R).1 82 = .inl (0, 6, .inl (a 6)) ∧ (sw h cu F o p (s, a, w) z T x ru im tp R).1 83 = .inl (0, 6, .inl (a 7)) ∧ (sw h cu F o p (s, a, w) z T x ru im tp R).1 84 = .inl (0, 6, .inl (a 8)) ∧ (sw h cu F o p (s, a, w) z T x ru im tp R).1 85 = .inl (0, 6, .inl (a 9)) ∧ (sw h cu F o p (s, a, w) z T x ru im tp R).1 86 = .inl (0, 560, .inl (a 10)) ∧ (sw h cu F o p (s, a, w) z T x ru im tp R).1 87 = .inl (2, 12, .inr (.inl w)) :=
  ⟨rfl, rfl, rfl, rfl, rfl, rfl, rfl, rfl, rfl, rfl, rfl, rfl, rfl⟩
theorem sw_wqo : jx_put (sw h cu F o p (s, a, w) z T x ru im tp R) 75 (.inr (1, cq_ob 75 s')) = sw h cu F o p (s', a, w) z T x ru im tp R := by
  have := @cq_wo (sw h cu F o p (s, a, w) z T x ru im tp R) 75 s s' a w
  rwa [sw_q, sw_q] at this
theorem sw_wqr : jx_put (sw h cu F o p (s, a, w) z T x ru im tp R) 76 (.inl (0, 6, .inl f)) = sw h cu F o p (s, va_up a 0 f, w) z T x ru im tp R ∧ jx_put (sw h cu F o p (s, a, w) z T x ru im tp R) 77 (.inl (0, 12, .inl f)) = sw h cu F o p (s, va_up a 1 f, w) z T x ru im tp R ∧ jx_put (sw h cu F o p (s, a, w) z T x ru im tp R) 78 (.inl (0, 6, .inl f)) = sw h cu F o p (s, va_up a 2 f, w) z T x ru im tp R ∧ jx_put (sw h cu F o p (s, a, w) z T x ru im tp R) 79 (.inl (0, 6, .inl f)) = sw h cu F o p (s, va_up a 3 f, w) z T x ru im tp R ∧ jx_put (sw h cu F o p (s, a, w) z T x ru im tp R) 80 (.inl (0, 6, .inl f)) = sw h cu F o p (s, va_up a 4 f, w) z T x ru im tp R ∧ jx_put (sw h cu F o p (s, a, w) z T x ru im tp R) 81 (.inl (0, 20, .inl f)) = sw h cu F o p (s, va_up a 5 f, w) z T x ru im tp R ∧ jx_put (sw h cu F o p (s, a, w) z T x ru im tp R) 82 (.inl (0, 6, .inl f)) = sw h cu F o p (s, va_up a 6 f, w) z T x ru im tp R ∧ jx_put (sw h cu F o p (s, a, w) z T x ru im tp R) 83 (.inl (0, 6, .inl f)) = sw h cu F o p (s, va_up a 7 f, w) z T x ru im tp R ∧ jx_put (sw h cu F o p (s, a, w) z T x ru im tp R) 84 (.inl (0, 6, .inl f)) = sw h cu F o p (s, va_up a 8 f, w) z T x ru im tp R ∧ jx_put (sw h cu F o p (s, a, w) z T x ru im tp R) 85 (.inl (0, 6, .inl f)) = sw h cu F o p (s, va_up a 9 f, w) z T x ru im tp R ∧ jx_put (sw h cu F o p (s, a, w) z T x ru im tp R) 86 (.inl (0, 560, .inl f)) = sw h cu F o p (s, va_up a 10 f, w) z T x ru im tp R := by
  have := @cq_wr (sw h cu F o p (s, a, w) z T x ru im tp R) 75 s a w f
  rwa [sw_q, sw_q, sw_q, sw_q, sw_q, sw_q, sw_q, sw_q, sw_q, sw_q, sw_q, sw_q] at this
end SWQ
/-- the numbers a text of a court has told so far -/
def lq_s (sb : Nat → Int32) (dn : Nat) (ow : Int32) (tm pm u : Nat) : Nat → Int32 := fun k => if k = 0 then nI dn else if k = 1 then ow else if k = 2 then nI tm else if k = 3 then nI pm else if k = 6 then (if u = 0 then 0 else 1) else sb k
section LQ
variable {sb : Nat → Int32} {dn tm pm u n : Nat} {ow v : Int32}
theorem lq_r : lq_s sb dn ow tm pm u 0 = nI dn ∧ lq_s sb dn ow tm pm u 1 = ow ∧ lq_s sb dn ow tm pm u 2 = nI tm ∧ lq_s sb dn ow tm pm u 3 = nI pm ∧ lq_s sb dn ow tm pm u 6 = (if u = 0 then 0 else 1) := ⟨rfl, rfl, rfl, rfl, rfl⟩
theorem lq_wd : va_up (lq_s sb dn ow tm pm u) 0 (nI n) = lq_s sb n ow tm pm u := by
  funext k
  simp only [va_up, lq_s]
  by_cases r : k = 0
  · subst r; rfl
  · simp only [r, if_false]
theorem lq_wo : va_up (lq_s sb dn ow tm pm u) 1 v = lq_s sb dn v tm pm u := by
  funext k
  simp only [va_up, lq_s]
  by_cases r : k = 1
  · subst r; rfl
  · simp only [r, if_false]
theorem lq_wt : va_up (lq_s sb dn ow tm pm u) 2 (nI n) = lq_s sb dn ow n pm u := by
  funext k
  simp only [va_up, lq_s]
  by_cases r : k = 2
  · subst r; rfl
  · simp only [r, if_false]
theorem lq_wp : va_up (lq_s sb dn ow tm pm u) 3 (nI n) = lq_s sb dn ow tm n u := by
  funext k
  simp only [va_up, lq_s]
  by_cases r : k = 3
  · subst r; rfl
  · simp only [r, if_false]
theorem lq_wi : va_up (lq_s sb dn ow tm pm u) 6 1 = lq_s sb dn ow tm pm (u + 1) := by
  funext k
  simp only [va_up, lq_s]
  by_cases r : k = 6
  · subst r; rfl
  · simp only [r, if_false]
theorem lq_u1 (hu : 0 < u) : lq_s sb dn ow tm pm u = lq_s sb dn ow tm pm (u + 1) := by
  funext k
  simp only [lq_s]
  rw [if_neg (show ¬ u = 0 by omega), if_neg (show ¬ u + 1 = 0 by omega)]
end LQ
def canb (k u tm pm : Nat) : Prop := u < 40 ∧ (k = 0 ↔ u = 0) ∧ (k = 1 → tm < 6) ∧ (k = 3 → pm < 6)
section SDP
variable {d : Nat} {h : jx_H} {cu : Option Nat} {F : Nat → Int32} {o p q z : cq_C} {T : List Value} {x : Int32 × Int32} {ru im : Nat → Option Nat} {tp : Nat → Int32} {R : Nat → Nat → Int32} {s : Nat → Int32} {a : Nat → Nat → Int32} {w : Nat → Int64}
variable {t M n k u dn tm pm : Nat} {u' e' g' n' ow : Int32} {sb : Nat → Int32}
theorem T_canBe (ht : 151 ≤ t) (hk : k < 5) (hu : u ≤ 40) (htm : tm ≤ 6) (hpm : pm ≤ 6) : jx_cr (d + 1) 206 [.ref t, .int (nI k)] (sw (tx h t (n') e' g' (nI u)) cu F o p (lq_s sb dn ow tm pm u, a, w) z T x ru im tp R) = some (.inl (some (.int (sp_bl (canb k u tm pm)))), (sw (tx h t (n') e' g' (nI u)) cu F o p (lq_s sb dn ow tm pm u, a, w) z T x ru im tp R)) := by
  have t3 : 3 ≤ t := by omega
  by_cases u40 : u < 40
  · have c1 : ¬ (40 : Int32) ≤ nI u := nI_ge (a := u) (b := 40) u40 (by omega)
    have b1 : ¬ (1 : Int32) = 0 ∧ ¬ (0 : Int32) = 1 := by decide
    have z0 : (nI 0 = 0) = True ∧ ¬ nI 1 = 0 ∧ ¬ nI 2 = 0 ∧ ¬ nI 3 = 0 ∧ ¬ nI 4 = 0 ∧ (nI 1 = 1) = True ∧ ¬ nI 0 = 1 ∧ ¬ nI 2 = 1 ∧ ¬ nI 3 = 1 ∧ ¬ nI 4 = 1 ∧ (nI 3 = 3) = True ∧ ¬ nI 0 = 3 ∧ ¬ nI 2 = 3 ∧ ¬ nI 4 = 3 := ⟨eq_true rfl, by decide, by decide, by decide, by decide, eq_true rfl, by decide, by decide, by decide, by decide, eq_true rfl, by decide, by decide, by decide⟩
    by_cases u0 : u = 0
    · by_cases k0 : k = 0
      · have B : canb k u tm pm := by unfold canb; omega
        rw [sp_bl_t B]
        subst k0
        simp only [cr_206, eb_206_0, eb_206_17, eb_206_18, eb_206_32, eb_206_33, eb_206_36, eb_206_38, eb_206_59, eb_206_63, eb_206_80, eb_206_84, eb_206_85, jx_ns_r, jx_ns_n, jx_ns_q, jx_ns_i, jx_gl_0, jx_gl_s, if_true, if_false, ite_true, ite_false, eq_self, Bool.false_eq_true, List.length_cons, List.length_nil, Nat.zero_le, Nat.reduceAdd, Nat.reduceSub, Nat.reduceLeDiff, Nat.reduceLT, Nat.reduceEqDiff, Int.reduceToNat, reduceIte, xe_aload, jx_rv_r, jx_rv_n, jx_rv_q, xk_getf, jx_gf_i, jx_ov_s, ak_V, xe_iconst, xi_40, xe_icmp_ge, xk_iload, jx_iv_i, ak_I, xe_ifne, xi_1, xx_1, xe_goto, xi_0, xx_0, xe_goto_w, xe_icmp_eq, xe_zreturn, xZ, xe_icmp_ne, xi_6, xx_6, xi_3, xx_3, tx_r ht, sw_r, sw_f, tx_f, tx_s, sw_rq, sw_wqo, sw_wqr, cq_f, cq_s, va_up_s, lq_r, c1, b1, eq_true u0, z0]
      · have B : ¬ canb k u tm pm := by unfold canb; omega
        rw [sp_bl_f B]
        rcases (by omega : k = 1 ∨ k = 2 ∨ k = 3 ∨ k = 4) with q | q | q | q <;> subst q <;> simp only [cr_206, eb_206_0, eb_206_17, eb_206_18, eb_206_32, eb_206_33, eb_206_36, eb_206_38, eb_206_59, eb_206_63, eb_206_80, eb_206_84, eb_206_85, jx_ns_r, jx_ns_n, jx_ns_q, jx_ns_i, jx_gl_0, jx_gl_s, if_true, if_false, ite_true, ite_false, eq_self, Bool.false_eq_true, List.length_cons, List.length_nil, Nat.zero_le, Nat.reduceAdd, Nat.reduceSub, Nat.reduceLeDiff, Nat.reduceLT, Nat.reduceEqDiff, Int.reduceToNat, reduceIte, xe_aload, jx_rv_r, jx_rv_n, jx_rv_q, xk_getf, jx_gf_i, jx_ov_s, ak_V, xe_iconst, xi_40, xe_icmp_ge, xk_iload, jx_iv_i, ak_I, xe_ifne, xi_1, xx_1, xe_goto, xi_0, xx_0, xe_goto_w, xe_icmp_eq, xe_zreturn, xZ, xe_icmp_ne, xi_6, xx_6, xi_3, xx_3, tx_r ht, sw_r, sw_f, tx_f, tx_s, sw_rq, sw_wqo, sw_wqr, cq_f, cq_s, va_up_s, lq_r, c1, b1, eq_true u0, z0]
    · by_cases k0 : k = 0
      · have B : ¬ canb k u tm pm := by unfold canb; omega
        rw [sp_bl_f B]
        subst k0
        simp only [cr_206, eb_206_0, eb_206_17, eb_206_18, eb_206_32, eb_206_33, eb_206_36, eb_206_38, eb_206_59, eb_206_63, eb_206_80, eb_206_84, eb_206_85, jx_ns_r, jx_ns_n, jx_ns_q, jx_ns_i, jx_gl_0, jx_gl_s, if_true, if_false, ite_true, ite_false, eq_self, Bool.false_eq_true, List.length_cons, List.length_nil, Nat.zero_le, Nat.reduceAdd, Nat.reduceSub, Nat.reduceLeDiff, Nat.reduceLT, Nat.reduceEqDiff, Int.reduceToNat, reduceIte, xe_aload, jx_rv_r, jx_rv_n, jx_rv_q, xk_getf, jx_gf_i, jx_ov_s, ak_V, xe_iconst, xi_40, xe_icmp_ge, xk_iload, jx_iv_i, ak_I, xe_ifne, xi_1, xx_1, xe_goto, xi_0, xx_0, xe_goto_w, xe_icmp_eq, xe_zreturn, xZ, xe_icmp_ne, xi_6, xx_6, xi_3, xx_3, tx_r ht, sw_r, sw_f, tx_f, tx_s, sw_rq, sw_wqo, sw_wqr, cq_f, cq_s, va_up_s, lq_r, c1, b1, u0, z0]
      · by_cases k1 : k = 1
        · by_cases c : tm < 6
          · have B : canb k u tm pm := by unfold canb; omega
            have c6 : ¬ (6 : Int32) ≤ nI tm := nI_ge (a := tm) (b := 6) c (by omega)
            rw [sp_bl_t B]
            subst k1
            simp only [cr_206, eb_206_0, eb_206_17, eb_206_18, eb_206_32, eb_206_33, eb_206_36, eb_206_38, eb_206_59, eb_206_63, eb_206_80, eb_206_84, eb_206_85, jx_ns_r, jx_ns_n, jx_ns_q, jx_ns_i, jx_gl_0, jx_gl_s, if_true, if_false, ite_true, ite_false, eq_self, Bool.false_eq_true, List.length_cons, List.length_nil, Nat.zero_le, Nat.reduceAdd, Nat.reduceSub, Nat.reduceLeDiff, Nat.reduceLT, Nat.reduceEqDiff, Int.reduceToNat, reduceIte, xe_aload, jx_rv_r, jx_rv_n, jx_rv_q, xk_getf, jx_gf_i, jx_ov_s, ak_V, xe_iconst, xi_40, xe_icmp_ge, xk_iload, jx_iv_i, ak_I, xe_ifne, xi_1, xx_1, xe_goto, xi_0, xx_0, xe_goto_w, xe_icmp_eq, xe_zreturn, xZ, xe_icmp_ne, xi_6, xx_6, xi_3, xx_3, tx_r ht, sw_r, sw_f, tx_f, tx_s, sw_rq, sw_wqo, sw_wqr, cq_f, cq_s, va_up_s, lq_r, c1, b1, u0, z0, c6]
          · have B : ¬ canb k u tm pm := by unfold canb; omega
            have c6 : (6 : Int32) ≤ nI tm := nI_le (a := 6) (by omega) (by omega)
            rw [sp_bl_f B]
            subst k1
            simp only [cr_206, eb_206_0, eb_206_17, eb_206_18, eb_206_32, eb_206_33, eb_206_36, eb_206_38, eb_206_59, eb_206_63, eb_206_80, eb_206_84, eb_206_85, jx_ns_r, jx_ns_n, jx_ns_q, jx_ns_i, jx_gl_0, jx_gl_s, if_true, if_false, ite_true, ite_false, eq_self, Bool.false_eq_true, List.length_cons, List.length_nil, Nat.zero_le, Nat.reduceAdd, Nat.reduceSub, Nat.reduceLeDiff, Nat.reduceLT, Nat.reduceEqDiff, Int.reduceToNat, reduceIte, xe_aload, jx_rv_r, jx_rv_n, jx_rv_q, xk_getf, jx_gf_i, jx_ov_s, ak_V, xe_iconst, xi_40, xe_icmp_ge, xk_iload, jx_iv_i, ak_I, xe_ifne, xi_1, xx_1, xe_goto, xi_0, xx_0, xe_goto_w, xe_icmp_eq, xe_zreturn, xZ, xe_icmp_ne, xi_6, xx_6, xi_3, xx_3, tx_r ht, sw_r, sw_f, tx_f, tx_s, sw_rq, sw_wqo, sw_wqr, cq_f, cq_s, va_up_s, lq_r, c1, b1, u0, z0, c6]
        · by_cases k3 : k = 3
          · by_cases c : pm < 6
            · have B : canb k u tm pm := by unfold canb; omega
              have c6 : ¬ (6 : Int32) ≤ nI pm := nI_ge (a := pm) (b := 6) c (by omega)
              rw [sp_bl_t B]
              subst k3
              simp only [cr_206, eb_206_0, eb_206_17, eb_206_18, eb_206_32, eb_206_33, eb_206_36, eb_206_38, eb_206_59, eb_206_63, eb_206_80, eb_206_84, eb_206_85, jx_ns_r, jx_ns_n, jx_ns_q, jx_ns_i, jx_gl_0, jx_gl_s, if_true, if_false, ite_true, ite_false, eq_self, Bool.false_eq_true, List.length_cons, List.length_nil, Nat.zero_le, Nat.reduceAdd, Nat.reduceSub, Nat.reduceLeDiff, Nat.reduceLT, Nat.reduceEqDiff, Int.reduceToNat, reduceIte, xe_aload, jx_rv_r, jx_rv_n, jx_rv_q, xk_getf, jx_gf_i, jx_ov_s, ak_V, xe_iconst, xi_40, xe_icmp_ge, xk_iload, jx_iv_i, ak_I, xe_ifne, xi_1, xx_1, xe_goto, xi_0, xx_0, xe_goto_w, xe_icmp_eq, xe_zreturn, xZ, xe_icmp_ne, xi_6, xx_6, xi_3, xx_3, tx_r ht, sw_r, sw_f, tx_f, tx_s, sw_rq, sw_wqo, sw_wqr, cq_f, cq_s, va_up_s, lq_r, c1, b1, u0, z0, c6]
            · have B : ¬ canb k u tm pm := by unfold canb; omega
              have c6 : (6 : Int32) ≤ nI pm := nI_le (a := 6) (by omega) (by omega)
              rw [sp_bl_f B]
              subst k3
              simp only [cr_206, eb_206_0, eb_206_17, eb_206_18, eb_206_32, eb_206_33, eb_206_36, eb_206_38, eb_206_59, eb_206_63, eb_206_80, eb_206_84, eb_206_85, jx_ns_r, jx_ns_n, jx_ns_q, jx_ns_i, jx_gl_0, jx_gl_s, if_true, if_false, ite_true, ite_false, eq_self, Bool.false_eq_true, List.length_cons, List.length_nil, Nat.zero_le, Nat.reduceAdd, Nat.reduceSub, Nat.reduceLeDiff, Nat.reduceLT, Nat.reduceEqDiff, Int.reduceToNat, reduceIte, xe_aload, jx_rv_r, jx_rv_n, jx_rv_q, xk_getf, jx_gf_i, jx_ov_s, ak_V, xe_iconst, xi_40, xe_icmp_ge, xk_iload, jx_iv_i, ak_I, xe_ifne, xi_1, xx_1, xe_goto, xi_0, xx_0, xe_goto_w, xe_icmp_eq, xe_zreturn, xZ, xe_icmp_ne, xi_6, xx_6, xi_3, xx_3, tx_r ht, sw_r, sw_f, tx_f, tx_s, sw_rq, sw_wqo, sw_wqr, cq_f, cq_s, va_up_s, lq_r, c1, b1, u0, z0, c6]
          · have B : canb k u tm pm := by unfold canb; omega
            rw [sp_bl_t B]
            rcases (by omega : k = 2 ∨ k = 4) with q | q <;> subst q <;> simp only [cr_206, eb_206_0, eb_206_17, eb_206_18, eb_206_32, eb_206_33, eb_206_36, eb_206_38, eb_206_59, eb_206_63, eb_206_80, eb_206_84, eb_206_85, jx_ns_r, jx_ns_n, jx_ns_q, jx_ns_i, jx_gl_0, jx_gl_s, if_true, if_false, ite_true, ite_false, eq_self, Bool.false_eq_true, List.length_cons, List.length_nil, Nat.zero_le, Nat.reduceAdd, Nat.reduceSub, Nat.reduceLeDiff, Nat.reduceLT, Nat.reduceEqDiff, Int.reduceToNat, reduceIte, xe_aload, jx_rv_r, jx_rv_n, jx_rv_q, xk_getf, jx_gf_i, jx_ov_s, ak_V, xe_iconst, xi_40, xe_icmp_ge, xk_iload, jx_iv_i, ak_I, xe_ifne, xi_1, xx_1, xe_goto, xi_0, xx_0, xe_goto_w, xe_icmp_eq, xe_zreturn, xZ, xe_icmp_ne, xi_6, xx_6, xi_3, xx_3, tx_r ht, sw_r, sw_f, tx_f, tx_s, sw_rq, sw_wqo, sw_wqr, cq_f, cq_s, va_up_s, lq_r, c1, b1, u0, z0]
  · have c1 : (40 : Int32) ≤ nI u := nI_le (a := 40) (by omega) (by omega)
    have B : ¬ canb k u tm pm := by unfold canb; omega
    rw [sp_bl_f B]
    simp only [cr_206, eb_206_0, eb_206_36, jx_ns_r, jx_ns_n, jx_ns_q, jx_ns_i, jx_gl_0, jx_gl_s, if_true, if_false, ite_true, ite_false, eq_self, Bool.false_eq_true, List.length_cons, List.length_nil, Nat.zero_le, Nat.reduceAdd, Nat.reduceSub, Nat.reduceLeDiff, Nat.reduceLT, Nat.reduceEqDiff, Int.reduceToNat, reduceIte, xe_aload, jx_rv_r, jx_rv_n, jx_rv_q, xk_getf, jx_gf_i, jx_ov_s, ak_V, xe_iconst, xi_40, xe_icmp_ge, xk_iload, jx_iv_i, ak_I, xe_ifne, xi_1, xx_1, xe_goto, xi_0, xx_0, xe_goto_w, xe_icmp_eq, xe_zreturn, xZ, xe_icmp_ne, xi_6, xx_6, xi_3, xx_3, tx_r ht, sw_r, sw_f, tx_f, tx_s, sw_rq, sw_wqo, sw_wqr, cq_f, cq_s, va_up_s, c1]
end SDP
