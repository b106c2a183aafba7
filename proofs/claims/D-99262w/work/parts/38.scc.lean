/-! SpoonCourt: keepsAct, undo, hour, deed, slight, tray, gloves, strip -/
set_option maxRecDepth 100000
def sp_sh (f : Nat → Int32) (k : Nat) : Int32 := if k < 532 then f (28 + k) else f k
/-- an act is kept: the numbers and the rows after it -/
def sp_ks (s : Nat → Int32) : Nat → Int32 := if s 5 = 20 then s else va_up s 5 (s 5 + 1)
def sp_ka (s : Nat → Int32) (a : Nat → Nat → Int32) : Nat → Nat → Int32 :=
  if s 5 = 20 then va_up a 10 (cq_sav s (va_up a 10 (sp_sh (a 10))) 19) else va_up a 10 (cq_sav s a (s 5).toNatClampNeg)
theorem sp_cpsh {g : Nat → Int32} {f : va_E → Option jx_R} : jx_cp (.inl (0, 560, .inl g)) (.inl (0, 560, .inl g)) 28 0 532 f = f (.inl (0, 560, .inl (sp_sh g))) := by
  rw [jx_cp_i, if_pos (by decide)]
  have : va_cpy g g (Int32.toNatClampNeg 28) (Int32.toNatClampNeg 0) (Int32.toNatClampNeg 532) = sp_sh g := by
    funext k
    show (if 0 ≤ k ∧ k < 0 + 532 then g (28 + (k - 0)) else g k) = _
    simp only [sp_sh, Nat.zero_le, true_and, Nat.zero_add, Nat.sub_zero]
  rw [this]
section SCc
variable {d : Nat} {h : jx_H} {cu : Option Nat} {F : Nat → Int32} {o p q z : cq_C} {T : List Value} {x : Int32 × Int32} {ru im : Nat → Option Nat} {tp : Nat → Int32} {R : Nat → Nat → Int32} {s : Nat → Int32} {a : Nat → Nat → Int32} {w : Nat → Int64}
variable {i k : Int32} {t tm pm day um : Nat}
theorem sc_keepsAct (hu : um ≤ 20) (eu : s 5 = nI um) : jx_cr (d + 2) 17 [.ref 48] (sw h (some 49) F (s, a, w) p q z T x ru im tp R) = some (.inl none, sw h (some 49) F (sp_ks s, sp_ka s a, w) p q z T x ru im tp R) := by
  have hl := fun (s : Nat → Int32) a (u : Nat) (h2 : u < 20) => cq_lays (d := d) (h := (sw h (some 49) F (s, a, w) p q z T x ru im tp R)) (b := 49) (s := s) (a := a) (w := w) h2
  simp only [sw_o] at hl
  by_cases e : um = 20
  · subst e
    have e' : s 5 = 20 := eu
    have e2 : (20 : Int32) - 1 = nI 19 := by decide
    have hl := fun s a => hl s a 19 (by omega)
    simp only [cr_17, eb_17_0, eb_17_48, jx_ns_r, jx_ns_n, jx_ns_q, jx_ns_i, jx_gl_0, jx_gl_s, if_true, if_false, ite_true, ite_false, eq_self, Bool.false_eq_true, List.length_cons, List.length_nil, Nat.zero_le, Nat.reduceAdd, Nat.reduceSub, Nat.reduceLeDiff, Nat.reduceLT, Nat.reduceEqDiff, Int.reduceToNat, reduceIte, xe_aload, jx_rv_r, jx_rv_n, jx_rv_q, xk_getf, jx_gf_i, jx_ov_s, ak_V, xe_iconst, xi_20, xx_20, xe_icmp_ne, xi_28, xx_28, xi_0, xx_0, xi_532, xk_copy, ak_P, xe_dup, jx_2_i, jx_2_l, jx_2_r, jx_2_n, jx_2_q, or_self, xi_1, xx_1, xe_isub, xk_putf, jx_pf_i, jx_pf_z, jx_pf_l, jx_pf_r, jx_pf_n, jx_pf_q, Nat.reduceMod, Nat.reduceDiv, xe_goto_w, xe_inv1, jx_cc_i, jx_cc_v, jx_cl9_i, xe_iadd, xe_return, sw_r, sw_f, sw_s, sw_wo, sw_ro, sw_rp, sw_woo, sw_wor, sw_wpo, sw_wpr, cq_f, cq_s, va_up_s, va_rf_s, va_rf_n, e', sp_cpsh, e2, hl]
    have e3 : nI 19 + 1 = 20 := by decide
    have e4 : sp_ks s = s := by simp only [sp_ks, e', if_true]
    have e5 : sp_ka s a = va_up a 10 (cq_sav s (va_up a 10 (sp_sh (a 10))) 19) := by simp only [sp_ka, e', if_true]
    rw [e4, e5, e3, ← sw_o (C := (s, _, w)) (o := (s, a, w)), ← sw_o (C := (va_up _ 5 20, _, w)) (o := (s, a, w))]
    refine congrArg (fun z => some (Sum.inl none, z)) ?_
    rw [cq_sE (s' := s) (by
      intro k hk
      simp only [va_up]
      by_cases r : k = 5
      · subst r; rw [if_pos rfl, e']
      · rw [if_neg r, if_neg r])]
    refine cq_aE fun j hj => ?_
    simp only [va_up]
    by_cases r : j = 10
    · subst r
      simp only [if_true]
      funext k
      simp only [cq_sav, cq_sn, va_up]
      rw [if_neg (show ¬ 7 + (k - 28 * 19) = 5 by omega)]
    · simp only [r, if_false]
  · have hl := fun s a => hl s a um (by omega)
    have ne : ¬ nI um = 20 := by
      intro r
      exact e ((nI_eq (by omega) (by omega)).mp (show nI um = nI 20 from r))
    simp only [cr_17, eb_17_0, eb_17_48, jx_ns_r, jx_ns_n, jx_ns_q, jx_ns_i, jx_gl_0, jx_gl_s, if_true, if_false, ite_true, ite_false, eq_self, Bool.false_eq_true, List.length_cons, List.length_nil, Nat.zero_le, Nat.reduceAdd, Nat.reduceSub, Nat.reduceLeDiff, Nat.reduceLT, Nat.reduceEqDiff, Int.reduceToNat, reduceIte, xe_aload, jx_rv_r, jx_rv_n, jx_rv_q, xk_getf, jx_gf_i, jx_ov_s, ak_V, xe_iconst, xi_20, xx_20, xe_icmp_ne, xi_28, xx_28, xi_0, xx_0, xi_532, xk_copy, ak_P, xe_dup, jx_2_i, jx_2_l, jx_2_r, jx_2_n, jx_2_q, or_self, xi_1, xx_1, xe_isub, xk_putf, jx_pf_i, jx_pf_z, jx_pf_l, jx_pf_r, jx_pf_n, jx_pf_q, Nat.reduceMod, Nat.reduceDiv, xe_goto_w, xe_inv1, jx_cc_i, jx_cc_v, jx_cl9_i, xe_iadd, xe_return, sw_r, sw_f, sw_s, sw_wo, sw_ro, sw_rp, sw_woo, sw_wor, sw_wpo, sw_wpr, cq_f, cq_s, va_up_s, va_rf_s, va_rf_n, eu, ne, hl, sp_ks, sp_ka, nI_clamp (show um < 2 ^ 31 by omega)]
theorem sc_undo0 : jx_cr (d + 2) 18 [.ref 48] (sw h none F o p q z T x ru im tp R) = some (.inl (some (.int (-2))), (sw h none F o p q z T x ru im tp R)) := by
  simp only [cr_18, eb_18_0, eb_18_17, jx_ns_r, jx_ns_n, jx_ns_q, jx_ns_i, jx_gl_0, jx_gl_s, if_true, if_false, ite_true, ite_false, eq_self, Bool.false_eq_true, List.length_cons, List.length_nil, Nat.zero_le, Nat.reduceAdd, Nat.reduceSub, Nat.reduceLeDiff, Nat.reduceLT, Nat.reduceEqDiff, Int.reduceToNat, reduceIte, xe_aload, jx_rv_r, jx_rv_n, jx_rv_q, xk_getf, jx_gf_i, jx_ov_s, ak_V, xe_ifnull_n, xe_ifnull_r, xe_ifne, xe_goto_w, xe_iconst, xi_m2, xe_ireturn, xe_dup, jx_2_i, jx_2_l, jx_2_r, jx_2_n, jx_2_q, or_self, xi_1, xx_1, xe_isub, xk_putf, ak_P, jx_pf_i, jx_pf_z, jx_pf_l, jx_pf_r, jx_pf_n, jx_pf_q, Nat.reduceMod, Nat.reduceDiv, xe_inv1, jx_cc_i, jx_cc_v, jx_cl9_i, sw_r, sw_f, sw_s, sw_wo, sw_ro, sw_rp, sw_woo, sw_wor, sw_wpo, sw_wpr, cq_f, cq_s, va_up_s, va_rf_s, va_rf_n]
theorem sc_undo1 (e : s 5 = 0) : jx_cr (d + 2) 18 [.ref 48] (sw h (some 49) F (s, a, w) p q z T x ru im tp R) = some (.inl (some (.int (-2))), (sw h (some 49) F (s, a, w) p q z T x ru im tp R)) := by
  simp only [cr_18, eb_18_0, eb_18_17, jx_ns_r, jx_ns_n, jx_ns_q, jx_ns_i, jx_gl_0, jx_gl_s, if_true, if_false, ite_true, ite_false, eq_self, Bool.false_eq_true, List.length_cons, List.length_nil, Nat.zero_le, Nat.reduceAdd, Nat.reduceSub, Nat.reduceLeDiff, Nat.reduceLT, Nat.reduceEqDiff, Int.reduceToNat, reduceIte, xe_aload, jx_rv_r, jx_rv_n, jx_rv_q, xk_getf, jx_gf_i, jx_ov_s, ak_V, xe_ifnull_n, xe_ifnull_r, xe_ifne, xe_goto_w, xe_iconst, xi_m2, xe_ireturn, xe_dup, jx_2_i, jx_2_l, jx_2_r, jx_2_n, jx_2_q, or_self, xi_1, xx_1, xe_isub, xk_putf, ak_P, jx_pf_i, jx_pf_z, jx_pf_l, jx_pf_r, jx_pf_n, jx_pf_q, Nat.reduceMod, Nat.reduceDiv, xe_inv1, jx_cc_i, jx_cc_v, jx_cl9_i, sw_r, sw_f, sw_s, sw_wo, sw_ro, sw_rp, sw_woo, sw_wor, sw_wpo, sw_wpr, cq_f, cq_s, va_up_s, va_rf_s, va_rf_n, e]
theorem sc_undo (hu : um < 20) (eu : s 5 = nI (um + 1)) : jx_cr (d + 2) 18 [.ref 48] (sw h (some 49) F (s, a, w) p q z T x ru im tp R) = some (.inl (some (.int (nI um))), sw h (some 49) F (cq_tks (va_up s 5 (nI um)) a um, cq_tka a um, w) p q z T x ru im tp R) := by
  have hl := fun (s : Nat → Int32) a => cq_takes (d := d) (h := (sw h (some 49) F (s, a, w) p q z T x ru im tp R)) (b := 49) (s := s) (a := a) (w := w) hu
  simp only [sw_o] at hl
  have ne : ¬ nI (um + 1) = 0 := nI_ne0 (by omega) (by omega)
  have e5 : cq_tks (va_up s 5 (nI um)) a um 5 = nI um := rfl
  simp only [cr_18, eb_18_0, eb_18_17, eb_18_20, jx_ns_r, jx_ns_n, jx_ns_q, jx_ns_i, jx_gl_0, jx_gl_s, if_true, if_false, ite_true, ite_false, eq_self, Bool.false_eq_true, List.length_cons, List.length_nil, Nat.zero_le, Nat.reduceAdd, Nat.reduceSub, Nat.reduceLeDiff, Nat.reduceLT, Nat.reduceEqDiff, Int.reduceToNat, reduceIte, xe_aload, jx_rv_r, jx_rv_n, jx_rv_q, xk_getf, jx_gf_i, jx_ov_s, ak_V, xe_ifnull_n, xe_ifnull_r, xe_ifne, xe_goto_w, xe_iconst, xi_m2, xe_ireturn, xe_dup, jx_2_i, jx_2_l, jx_2_r, jx_2_n, jx_2_q, or_self, xi_1, xx_1, xe_isub, xk_putf, ak_P, jx_pf_i, jx_pf_z, jx_pf_l, jx_pf_r, jx_pf_n, jx_pf_q, Nat.reduceMod, Nat.reduceDiv, xe_inv1, jx_cc_i, jx_cc_v, jx_cl9_i, sw_r, sw_f, sw_s, sw_wo, sw_ro, sw_rp, sw_woo, sw_wor, sw_wpo, sw_wpr, cq_f, cq_s, va_up_s, va_rf_s, va_rf_n, eu, ne, nI_pred, hl, e5]
theorem sc_hour0 : jx_cr (d + 2) 19 [.ref 48] (sw h none F o p q z T x ru im tp R) = some (.inl (some (.int (-1))), (sw h none F o p q z T x ru im tp R)) := by
  simp only [cr_19, eb_19_0, eb_19_20, jx_ns_r, jx_ns_n, jx_ns_q, jx_ns_i, jx_gl_0, jx_gl_s, if_true, if_false, ite_true, ite_false, eq_self, Bool.false_eq_true, List.length_cons, List.length_nil, Nat.zero_le, Nat.reduceAdd, Nat.reduceSub, Nat.reduceLeDiff, Nat.reduceLT, Nat.reduceEqDiff, Int.reduceToNat, reduceIte, xe_aload, jx_rv_r, jx_rv_n, jx_rv_q, xk_getf, jx_gf_i, jx_ov_s, ak_V, xe_ifnull_n, xe_ifnull_r, xe_iconst, xi_999, xe_icmp_ne, xe_goto_w, xi_m1, xe_ireturn, xe_inv0, jx_cc_i, jx_cc_v, Nat.reduceMod, Nat.reduceDiv, jx_cl9_i, xe_inv1, sw_r, sw_f, sw_s, sw_wo, sw_ro, sw_rp, sw_woo, sw_wor, sw_wpo, sw_wpr, cq_f, cq_s, va_up_s, va_rf_s, va_rf_n]
theorem sc_hour1 (e : s 7 = 999) : jx_cr (d + 2) 19 [.ref 48] (sw h (some 49) F (s, a, w) p q z T x ru im tp R) = some (.inl (some (.int (-1))), (sw h (some 49) F (s, a, w) p q z T x ru im tp R)) := by
  simp only [cr_19, eb_19_0, eb_19_20, jx_ns_r, jx_ns_n, jx_ns_q, jx_ns_i, jx_gl_0, jx_gl_s, if_true, if_false, ite_true, ite_false, eq_self, Bool.false_eq_true, List.length_cons, List.length_nil, Nat.zero_le, Nat.reduceAdd, Nat.reduceSub, Nat.reduceLeDiff, Nat.reduceLT, Nat.reduceEqDiff, Int.reduceToNat, reduceIte, xe_aload, jx_rv_r, jx_rv_n, jx_rv_q, xk_getf, jx_gf_i, jx_ov_s, ak_V, xe_ifnull_n, xe_ifnull_r, xe_iconst, xi_999, xe_icmp_ne, xe_goto_w, xi_m1, xe_ireturn, xe_inv0, jx_cc_i, jx_cc_v, Nat.reduceMod, Nat.reduceDiv, jx_cl9_i, xe_inv1, sw_r, sw_f, sw_s, sw_wo, sw_ro, sw_rp, sw_woo, sw_wor, sw_wpo, sw_wpr, cq_f, cq_s, va_up_s, va_rf_s, va_rf_n, e]
theorem sc_deed0 : jx_cr (d + 2) 20 [.ref 48, .int i, .int k] (sw h none F o p q z T x ru im tp R) = some (.inl (some (.int (-1))), (sw h none F o p q z T x ru im tp R)) := by
  simp only [cr_20, eb_20_0, eb_20_20, jx_ns_r, jx_ns_n, jx_ns_q, jx_ns_i, jx_gl_0, jx_gl_s, if_true, if_false, ite_true, ite_false, eq_self, Bool.false_eq_true, List.length_cons, List.length_nil, Nat.zero_le, Nat.reduceAdd, Nat.reduceSub, Nat.reduceLeDiff, Nat.reduceLT, Nat.reduceEqDiff, Int.reduceToNat, reduceIte, xe_aload, jx_rv_r, jx_rv_n, jx_rv_q, xk_iload, jx_iv_i, ak_I, xe_inv1, jx_cc_i, jx_cc_v, Nat.reduceMod, Nat.reduceDiv, jx_cl9_i, xe_ifeq, xe_i2l, xe_lconst, xl_1, xl_99, xe_sta3, xe_ifne, xe_goto_w, xe_iconst, xi_m1, xe_ireturn, xe_inv0, xk_getf, jx_gf_i, jx_ov_s, ak_V, xe_inv2, xk_iald, ja_ia, ak_A, true_or, or_true, sw_r, sw_f, sw_s, sw_wo, sw_ro, sw_rp, sw_woo, sw_wor, sw_wpo, sw_wpr, cq_f, cq_s, va_up_s, va_rf_s, va_rf_n, sc_isPerson0]
theorem sc_deed1 (hq : ¬ ((0 ≤ i ∧ i < s 3) ∧ 1 ≤ k.toInt64 ∧ k.toInt64 ≤ 99)) : jx_cr (d + 2) 20 [.ref 48, .int i, .int k] (sw h (some 49) F (s, a, w) p q z T x ru im tp R) = some (.inl (some (.int (-1))), (sw h (some 49) F (s, a, w) p q z T x ru im tp R)) := by
  simp only [cr_20, eb_20_0, eb_20_20, jx_ns_r, jx_ns_n, jx_ns_q, jx_ns_i, jx_gl_0, jx_gl_s, if_true, if_false, ite_true, ite_false, eq_self, Bool.false_eq_true, List.length_cons, List.length_nil, Nat.zero_le, Nat.reduceAdd, Nat.reduceSub, Nat.reduceLeDiff, Nat.reduceLT, Nat.reduceEqDiff, Int.reduceToNat, reduceIte, xe_aload, jx_rv_r, jx_rv_n, jx_rv_q, xk_iload, jx_iv_i, ak_I, xe_inv1, jx_cc_i, jx_cc_v, Nat.reduceMod, Nat.reduceDiv, jx_cl9_i, xe_ifeq, xe_i2l, xe_lconst, xl_1, xl_99, xe_sta3, xe_ifne, xe_goto_w, xe_iconst, xi_m1, xe_ireturn, xe_inv0, xk_getf, jx_gf_i, jx_ov_s, ak_V, xe_inv2, xk_iald, ja_ia, ak_A, true_or, or_true, sw_r, sw_f, sw_s, sw_wo, sw_ro, sw_rp, sw_woo, sw_wor, sw_wpo, sw_wpr, cq_f, cq_s, va_up_s, va_rf_s, va_rf_n, sc_isPerson1, cq_inL]
  by_cases q1 : 0 ≤ i ∧ i < s 3
  · have q2 : ¬ (1 ≤ k.toInt64 ∧ k.toInt64 ≤ 99) := fun r => hq ⟨q1, r⟩
    simp only [q1, and_self, if_true, sp_10, q2, if_false]
  · simp only [q1, if_false, if_true]
theorem sc_deed (hu : um ≤ 20) (eu : s 5 = nI um) (ht : t < pm) (hpm : pm ≤ 6) (es : s 3 = nI pm) (hk : 1 ≤ k.toInt64 ∧ k.toInt64 ≤ 99) : jx_cr (d + 3) 20 [.ref 48, .int (nI t), .int k] (sw h (some 49) F (s, a, w) p q z T x ru im tp R) = some (.inl (some (.int (cq_mn (a 7 t + k)))), sw h (some 49) F (sp_ks s, va_up (sp_ka s a) 7 (upd (a 7) t (cq_mn (a 7 t + k))), w) p q z T x ru im tp R) := by
  have h1 : jx_ix (nI t) 6 = some t := by rw [jx_ix_n (by omega), if_pos (by omega)]
  have hq : 0 ≤ nI t ∧ nI t < s 3 := by rw [es]; exact ⟨nI_pos' (by omega), nI_lt ht (by omega)⟩
  have hK := sc_keepsAct (d := d) (h := h) (F := F) (s := s) (a := a) (w := w) (p := p) (q := q) (z := z) (T := T) (x := x) (ru := ru) (im := im) (tp := tp) (R := R) hu eu
  have hl := fun (s : Nat → Int32) a => cq_thanked (d := d + 1) (h := (sw h (some 49) F (s, a, w) p q z T x ru im tp R)) (b := 49) (p := t) (s := s) (a := a) (w := w) (x := k) (by omega)
  simp only [sw_o] at hl
  have e7 : sp_ka s a 7 = a 7 := by
    simp only [sp_ka]
    split <;> rfl
  have eu2 : upd (a 7) t (cq_mn (a 7 t + k)) t = cq_mn (a 7 t + k) := if_pos rfl
  simp only [cr_20, eb_20_0, eb_20_20, eb_20_22, jx_ns_r, jx_ns_n, jx_ns_q, jx_ns_i, jx_gl_0, jx_gl_s, if_true, if_false, ite_true, ite_false, eq_self, Bool.false_eq_true, List.length_cons, List.length_nil, Nat.zero_le, Nat.reduceAdd, Nat.reduceSub, Nat.reduceLeDiff, Nat.reduceLT, Nat.reduceEqDiff, Int.reduceToNat, reduceIte, xe_aload, jx_rv_r, jx_rv_n, jx_rv_q, xk_iload, jx_iv_i, ak_I, xe_inv1, jx_cc_i, jx_cc_v, Nat.reduceMod, Nat.reduceDiv, jx_cl9_i, xe_ifeq, xe_i2l, xe_lconst, xl_1, xl_99, xe_sta3, xe_ifne, xe_goto_w, xe_iconst, xi_m1, xe_ireturn, xe_inv0, xk_getf, jx_gf_i, jx_ov_s, ak_V, xe_inv2, xk_iald, ja_ia, ak_A, true_or, or_true, sw_r, sw_f, sw_s, sw_wo, sw_ro, sw_rp, sw_woo, sw_wor, sw_wpo, sw_wpr, cq_f, cq_s, va_up_s, va_rf_s, va_rf_n, sc_isPerson1, cq_inL, hq, hk, and_self, sp_10, hK, hl, h1, e7, eu2]
end SCc
