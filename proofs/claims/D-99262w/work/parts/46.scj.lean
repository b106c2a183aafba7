/-! SpoonCourt: dubbed -/
set_option maxRecDepth 100000
/-- when, within m hours from state x on, person t is first dubbed: hours first -/
def sp_db (Lo : Option ((Nat → Int64) → Int64)) (i : Int32) : Nat → (Nat → Int32) × (Nat → Nat → Int32) → Option ((Nat → Int32) × (Nat → Nat → Int32))
  | 0, _ => none
  | m + 1, y => if (cq_ws y.1 y.2 >>> (i &&& 31)) &&& 1 = 1 then some (cq_go Lo y) else sp_db Lo i m (cq_go Lo y)
def sp_dbv (k : Int32) (y : Option ((Nat → Int32) × (Nat → Nat → Int32))) : Int32 :=
  match y with
  | none => -2
  | some y => if k = 0 then y.1 7 - 1 else y.1 8
theorem sp_db_c {tm pm day : Nat} {Lo : Option ((Nat → Int64) → Int64)} {i k : Int32} : ∀ m now (s s' : Nat → Int32) (a a' : Nat → Nat → Int32), cq_iv s a day tm pm now → now + m < 2 ^ 31 → cq_eq tm pm day s s' a a' → sp_dbv k (sp_db Lo i m (s, a)) = sp_dbv k (sp_db Lo i m (s', a')) := by
  intro m
  induction m with
  | zero => intros; rfl
  | succ m ih =>
    intro now s s' a a' iv hn h
    have g := cq_go_c (Lo := Lo) iv (by omega) h
    simp only [sp_db, cq_ws_c iv h]
    split
    · simp only [sp_dbv, g.1 7 (by decide) (by decide) (by decide) (by decide), g.1 8 (by decide) (by decide) (by decide) (by decide)]
    · exact ih (now + 1) _ _ _ _ (cq_iv_go iv (by omega)) (by omega) g
section SJ
variable {d : Nat} {h : jx_H} {cu : Option Nat} {F : Nat → Int32} {o p q z : cq_C} {T : List Value} {x : Int32 × Int32} {ru im : Nat → Option Nat} {tp : Nat → Int32} {R : Nat → Nat → Int32} {s : Nat → Int32} {a : Nat → Nat → Int32} {w : Nat → Int64}
variable {i k : Int32} {t tm pm day um now D n : Nat} {lo : Option Nat} {Lo : Option ((Nat → Int64) → Int64)}
theorem sp_dub (hlo : sp_lo F ru lo) (hL : sp_lw (D + 2) h lo Lo) (h1 : jx_ix (nI t) 6 = some t) : ∀ m n now ps pa pw, n + m = 100 → cq_iv ps pa day tm pm now → now + m < 2 ^ 31 →
    ∃ p', jx_eb (d + D + 6) 26 35 [.ref 48, .int i, .int k, .int (nI n)] [] (sw h (some 49) F (s, a, w) (ps, pa, pw) q z T x ru im tp R) = some (.inl (some (.int (sp_dbv k (sp_db Lo i m (ps, pa))))), sw h (some 49) F (s, a, w) p' q z T x ru im tp R) := by
  intro m
  have hl := fun (d : Nat) (p : cq_C) => sc_law (d := d) (h := h) (cu := some 49) (F := F) (o := (s, a, w)) (p := p) (q := q) (z := z) (T := T) (x := x) (ru := ru) (im := im) (tp := tp) (R := R) hlo
  induction m with
  | zero =>
    intro n now ps pa pw hn iv hb
    have : n = 100 := by omega
    subst this
    have e : (100 : Int32) ≤ nI 100 := by decide
    exact ⟨(ps, pa, pw), by simp only [eb_26_35, eb_26_89, jx_ns_r, jx_ns_n, jx_ns_q, jx_ns_i, jx_gl_0, jx_gl_s, if_true, if_false, ite_true, ite_false, eq_self, Bool.false_eq_true, List.length_cons, List.length_nil, Nat.zero_le, Nat.reduceAdd, Nat.reduceSub, Nat.reduceLeDiff, Nat.reduceLT, Nat.reduceEqDiff, Int.reduceToNat, reduceIte, xe_aload, jx_rv_r, jx_rv_n, jx_rv_q, xk_iload, jx_iv_i, ak_I, xe_inv1, jx_cc_i, jx_cc_v, Nat.reduceMod, Nat.reduceDiv, jx_cl9_i, xe_ifeq, xe_i2l, xe_lconst, xl_0, xl_1, xe_sta3, xe_ifne, xe_goto_w, xe_iconst, xi_m3, xe_ireturn, xk_getf, jx_gf_i, jx_ov_s, ak_V, xe_pop, jx_2_i, jx_2_l, jx_2_r, jx_2_n, jx_2_q, or_self, xi_0, xx_0, xe_istore, xi_100, xe_icmp_ge, xe_inv0, xe_sta2, xi_1, xx_1, xe_isub, xe_goto, xk_iinc, ak_C, xi_m2, jx_s1, List.set_cons_zero, List.set_cons_succ, jx_2_u, jx_2_s, jx_k_i, jx_k_l, jx_k_r, jx_k_n, jx_k_u, jx_k_s, jx_k_q, e, sp_db, sp_dbv]⟩
  | succ m ih =>
    intro n now ps pa pw hn iv hb
    have h3 : ¬ (100 : Int32) ≤ nI n := nI_ge (a := n) (b := 100) (by omega) (by omega)
    obtain ⟨w1, e1⟩ := sp_hour (d := d + 1) (cu := some 49) (F := F) (o := (s, a, w)) (pw := pw) (q := q) (z := z) (T := T) (x := x) (ru := ru) (im := im) (tp := tp) (R := R) iv (by omega) hL
    have e3 : d + 1 + D + 5 = d + D + 6 := by omega
    rw [e3] at e1
    by_cases r : (cq_ws ps pa >>> (i &&& 31)) &&& 1 = 1
    · refine ⟨((cq_go Lo (ps, pa)).1, (cq_go Lo (ps, pa)).2, w1), ?_⟩
      rw [eb_26_35]
      by_cases r2 : k = 0 <;> simp only [eb_26_75, eb_26_82, jx_ns_r, jx_ns_n, jx_ns_q, jx_ns_i, jx_gl_0, jx_gl_s, if_true, if_false, ite_true, ite_false, eq_self, Bool.false_eq_true, List.length_cons, List.length_nil, Nat.zero_le, Nat.reduceAdd, Nat.reduceSub, Nat.reduceLeDiff, Nat.reduceLT, Nat.reduceEqDiff, Int.reduceToNat, reduceIte, xe_aload, jx_rv_r, jx_rv_n, jx_rv_q, xk_iload, jx_iv_i, ak_I, xe_inv1, jx_cc_i, jx_cc_v, Nat.reduceMod, Nat.reduceDiv, jx_cl9_i, xe_ifeq, xe_i2l, xe_lconst, xl_0, xl_1, xe_sta3, xe_ifne, xe_goto_w, xe_iconst, xi_m3, xe_ireturn, xk_getf, jx_gf_i, jx_ov_s, ak_V, xe_pop, jx_2_i, jx_2_l, jx_2_r, jx_2_n, jx_2_q, or_self, xi_0, xx_0, xe_istore, xi_100, xe_icmp_ge, xe_inv0, xe_sta2, xi_1, xx_1, xe_isub, xe_goto, xk_iinc, ak_C, xi_m2, jx_s1, List.set_cons_zero, List.set_cons_succ, jx_2_u, jx_2_s, jx_k_i, jx_k_l, jx_k_r, jx_k_n, jx_k_u, jx_k_s, jx_k_q, sw_r, sw_f, sw_s, sw_wo, sw_ro, sw_rp, sw_woo, sw_wor, sw_wpo, sw_wpr, cq_f, cq_s, va_up_s, va_rf_s, va_rf_n, h3, hl, e1, cq_has, r, r2, sp_10, sp_db, sp_dbv]
    · obtain ⟨p', e2⟩ := ih (n + 1) (now + 1) (cq_go Lo (ps, pa)).1 (cq_go Lo (ps, pa)).2 w1 (by omega) (cq_iv_go iv (by omega)) (by omega)
      refine ⟨p', ?_⟩
      rw [eb_26_35]
      simp only [eb_26_83, jx_ns_r, jx_ns_n, jx_ns_q, jx_ns_i, jx_gl_0, jx_gl_s, if_true, if_false, ite_true, ite_false, eq_self, Bool.false_eq_true, List.length_cons, List.length_nil, Nat.zero_le, Nat.reduceAdd, Nat.reduceSub, Nat.reduceLeDiff, Nat.reduceLT, Nat.reduceEqDiff, Int.reduceToNat, reduceIte, xe_aload, jx_rv_r, jx_rv_n, jx_rv_q, xk_iload, jx_iv_i, ak_I, xe_inv1, jx_cc_i, jx_cc_v, Nat.reduceMod, Nat.reduceDiv, jx_cl9_i, xe_ifeq, xe_i2l, xe_lconst, xl_0, xl_1, xe_sta3, xe_ifne, xe_goto_w, xe_iconst, xi_m3, xe_ireturn, xk_getf, jx_gf_i, jx_ov_s, ak_V, xe_pop, jx_2_i, jx_2_l, jx_2_r, jx_2_n, jx_2_q, or_self, xi_0, xx_0, xe_istore, xi_100, xe_icmp_ge, xe_inv0, xe_sta2, xi_1, xx_1, xe_isub, xe_goto, xk_iinc, ak_C, xi_m2, jx_s1, List.set_cons_zero, List.set_cons_succ, jx_2_u, jx_2_s, jx_k_i, jx_k_l, jx_k_r, jx_k_n, jx_k_u, jx_k_s, jx_k_q, sw_r, sw_f, sw_s, sw_wo, sw_ro, sw_rp, sw_woo, sw_wor, sw_wpo, sw_wpr, cq_f, cq_s, va_up_s, va_rf_s, va_rf_n, h3, hl, e1, cq_has, r, sp_10, sp_db, nI_1, e2]
end SJ
section SJ2
variable {d : Nat} {h : jx_H} {cu : Option Nat} {F : Nat → Int32} {o p q z : cq_C} {T : List Value} {x : Int32 × Int32} {ru im : Nat → Option Nat} {tp : Nat → Int32} {R : Nat → Nat → Int32} {s : Nat → Int32} {a : Nat → Nat → Int32} {w : Nat → Int64}
variable {i k : Int32} {t tm pm day um now D n : Nat} {lo : Option Nat} {Lo : Option ((Nat → Int64) → Int64)}
theorem sc_dubbed0 : jx_cr (d + 2) 26 [.ref 48, .int i, .int k] (sw h none F o p q z T x ru im tp R) = some (.inl (some (.int (-3))), (sw h none F o p q z T x ru im tp R)) := by
  simp only [cr_26, eb_26_0, eb_26_18, jx_ns_r, jx_ns_n, jx_ns_q, jx_ns_i, jx_gl_0, jx_gl_s, if_true, if_false, ite_true, ite_false, eq_self, Bool.false_eq_true, List.length_cons, List.length_nil, Nat.zero_le, Nat.reduceAdd, Nat.reduceSub, Nat.reduceLeDiff, Nat.reduceLT, Nat.reduceEqDiff, Int.reduceToNat, reduceIte, xe_aload, jx_rv_r, jx_rv_n, jx_rv_q, xk_iload, jx_iv_i, ak_I, xe_inv1, jx_cc_i, jx_cc_v, Nat.reduceMod, Nat.reduceDiv, jx_cl9_i, xe_ifeq, xe_i2l, xe_lconst, xl_0, xl_1, xe_sta3, xe_ifne, xe_goto_w, xe_iconst, xi_m3, xe_ireturn, xk_getf, jx_gf_i, jx_ov_s, ak_V, xe_pop, jx_2_i, jx_2_l, jx_2_r, jx_2_n, jx_2_q, or_self, xi_0, xx_0, xe_istore, xi_100, xe_icmp_ge, xe_inv0, xe_sta2, xi_1, xx_1, xe_isub, xe_goto, xk_iinc, ak_C, xi_m2, jx_s1, List.set_cons_zero, List.set_cons_succ, jx_2_u, jx_2_s, jx_k_i, jx_k_l, jx_k_r, jx_k_n, jx_k_u, jx_k_s, jx_k_q, sw_r, sw_f, sw_s, sw_wo, sw_ro, sw_rp, sw_woo, sw_wor, sw_wpo, sw_wpr, cq_f, cq_s, va_up_s, va_rf_s, va_rf_n, sc_isPerson0]
theorem sc_dubbed1 (hq : ¬ ((0 ≤ i ∧ i < s 3) ∧ 0 ≤ k.toInt64 ∧ k.toInt64 ≤ 1)) : jx_cr (d + 2) 26 [.ref 48, .int i, .int k] (sw h (some 49) F (s, a, w) p q z T x ru im tp R) = some (.inl (some (.int (-3))), (sw h (some 49) F (s, a, w) p q z T x ru im tp R)) := by
  by_cases q1 : 0 ≤ i ∧ i < s 3
  · have q2 : ¬ (0 ≤ k.toInt64 ∧ k.toInt64 ≤ 1) := fun r => hq ⟨q1, r⟩
    simp only [cr_26, eb_26_0, eb_26_18, jx_ns_r, jx_ns_n, jx_ns_q, jx_ns_i, jx_gl_0, jx_gl_s, if_true, if_false, ite_true, ite_false, eq_self, Bool.false_eq_true, List.length_cons, List.length_nil, Nat.zero_le, Nat.reduceAdd, Nat.reduceSub, Nat.reduceLeDiff, Nat.reduceLT, Nat.reduceEqDiff, Int.reduceToNat, reduceIte, xe_aload, jx_rv_r, jx_rv_n, jx_rv_q, xk_iload, jx_iv_i, ak_I, xe_inv1, jx_cc_i, jx_cc_v, Nat.reduceMod, Nat.reduceDiv, jx_cl9_i, xe_ifeq, xe_i2l, xe_lconst, xl_0, xl_1, xe_sta3, xe_ifne, xe_goto_w, xe_iconst, xi_m3, xe_ireturn, xk_getf, jx_gf_i, jx_ov_s, ak_V, xe_pop, jx_2_i, jx_2_l, jx_2_r, jx_2_n, jx_2_q, or_self, xi_0, xx_0, xe_istore, xi_100, xe_icmp_ge, xe_inv0, xe_sta2, xi_1, xx_1, xe_isub, xe_goto, xk_iinc, ak_C, xi_m2, jx_s1, List.set_cons_zero, List.set_cons_succ, jx_2_u, jx_2_s, jx_k_i, jx_k_l, jx_k_r, jx_k_n, jx_k_u, jx_k_s, jx_k_q, sw_r, sw_f, sw_s, sw_wo, sw_ro, sw_rp, sw_woo, sw_wor, sw_wpo, sw_wpr, cq_f, cq_s, va_up_s, va_rf_s, va_rf_n, sc_isPerson1, cq_inL, q1, q2, and_self, sp_10]
  · simp only [cr_26, eb_26_0, eb_26_18, jx_ns_r, jx_ns_n, jx_ns_q, jx_ns_i, jx_gl_0, jx_gl_s, if_true, if_false, ite_true, ite_false, eq_self, Bool.false_eq_true, List.length_cons, List.length_nil, Nat.zero_le, Nat.reduceAdd, Nat.reduceSub, Nat.reduceLeDiff, Nat.reduceLT, Nat.reduceEqDiff, Int.reduceToNat, reduceIte, xe_aload, jx_rv_r, jx_rv_n, jx_rv_q, xk_iload, jx_iv_i, ak_I, xe_inv1, jx_cc_i, jx_cc_v, Nat.reduceMod, Nat.reduceDiv, jx_cl9_i, xe_ifeq, xe_i2l, xe_lconst, xl_0, xl_1, xe_sta3, xe_ifne, xe_goto_w, xe_iconst, xi_m3, xe_ireturn, xk_getf, jx_gf_i, jx_ov_s, ak_V, xe_pop, jx_2_i, jx_2_l, jx_2_r, jx_2_n, jx_2_q, or_self, xi_0, xx_0, xe_istore, xi_100, xe_icmp_ge, xe_inv0, xe_sta2, xi_1, xx_1, xe_isub, xe_goto, xk_iinc, ak_C, xi_m2, jx_s1, List.set_cons_zero, List.set_cons_succ, jx_2_u, jx_2_s, jx_k_i, jx_k_l, jx_k_r, jx_k_n, jx_k_u, jx_k_s, jx_k_q, sw_r, sw_f, sw_s, sw_wo, sw_ro, sw_rp, sw_woo, sw_wor, sw_wpo, sw_wpr, cq_f, cq_s, va_up_s, va_rf_s, va_rf_n, sc_isPerson1, cq_inL, q1]
theorem sc_dubbed {ps : Nat → Int32} {pa : Nat → Nat → Int32} {pw : Nat → Int64} (iv : cq_iv s a day tm pm now) (hn : now ≤ 999) (ht : t < pm) (hk : 0 ≤ k.toInt64 ∧ k.toInt64 ≤ 1) (hlo : sp_lo F ru lo) (hL : sp_lw (D + 2) h lo Lo) :
    ∃ p', jx_cr (d + D + 7) 26 [.ref 48, .int (nI t), .int k] (sw h (some 49) F (s, a, w) (ps, pa, pw) q z T x ru im tp R) = some (.inl (some (.int (sp_dbv k (sp_db Lo (nI t) 100 (s, a))))), sw h (some 49) F (s, a, w) p' q z T x ru im tp R) := by
  have t6 := iv.2.2.2.2.1
  have p6 := iv.2.2.2.2.2.2.1
  have es := iv.2.2.2.2.2.1
  have ce : cq_eq tm pm day s s a (sp_cp a pa) := sp_cp_e t6 p6 iv.2.2.1
  have hpe : 0 ≤ nI t ∧ nI t < s 3 := by rw [es]; exact ⟨nI_pos' (by omega), nI_lt ht (by omega)⟩
  obtain ⟨p', e⟩ := sp_dub (d := d) (F := F) (w := w) (q := q) (z := z) (T := T) (x := x) (ru := ru) (im := im) (tp := tp) (R := R) (i := nI t) (k := k) (s := s) (a := a) (t := 0) hlo hL (by decide) 100 0 now s (sp_cp a pa) pw (by omega) (cq_iv_c iv ce) (by omega)
  rw [nI_0, ← sp_db_c 100 now s s a (sp_cp a pa) iv (by omega) ce] at e
  refine ⟨p', ?_⟩
  have hc := fun (d : Nat) => sp_copy (d := d) (h := h) (cu := some 49) (F := F) (s := s) (a := a) (w := w) (ps := ps) (pa := pa) (pw := pw) (q := q) (z := z) (T := T) (x := x) (ru := ru) (im := im) (tp := tp) (R := R)
  simp only [cr_26, eb_26_0, eb_26_21, jx_ns_r, jx_ns_n, jx_ns_q, jx_ns_i, jx_gl_0, jx_gl_s, if_true, if_false, ite_true, ite_false, eq_self, Bool.false_eq_true, List.length_cons, List.length_nil, Nat.zero_le, Nat.reduceAdd, Nat.reduceSub, Nat.reduceLeDiff, Nat.reduceLT, Nat.reduceEqDiff, Int.reduceToNat, reduceIte, xe_aload, jx_rv_r, jx_rv_n, jx_rv_q, xk_iload, jx_iv_i, ak_I, xe_inv1, jx_cc_i, jx_cc_v, Nat.reduceMod, Nat.reduceDiv, jx_cl9_i, xe_ifeq, xe_i2l, xe_lconst, xl_0, xl_1, xe_sta3, xe_ifne, xe_goto_w, xe_iconst, xi_m3, xe_ireturn, xk_getf, jx_gf_i, jx_ov_s, ak_V, xe_pop, jx_2_i, jx_2_l, jx_2_r, jx_2_n, jx_2_q, or_self, xi_0, xx_0, xe_istore, xi_100, xe_icmp_ge, xe_inv0, xe_sta2, xi_1, xx_1, xe_isub, xe_goto, xk_iinc, ak_C, xi_m2, jx_s1, List.set_cons_zero, List.set_cons_succ, jx_2_u, jx_2_s, jx_k_i, jx_k_l, jx_k_r, jx_k_n, jx_k_u, jx_k_s, jx_k_q, sw_r, sw_f, sw_s, sw_wo, sw_ro, sw_rp, sw_woo, sw_wor, sw_wpo, sw_wpr, cq_f, cq_s, va_up_s, va_rf_s, va_rf_n, sc_isPerson1, cq_inL, hpe, hk, and_self, sp_10, hc]
  exact e
end SJ2
