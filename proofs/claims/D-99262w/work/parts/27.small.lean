/-! small methods -/
set_option maxRecDepth 100000
theorem cq_has {d : Nat} {a k : Int32} {h : jx_H} : jx_cr (d + 1) 2 [.int a, .int k] h = some (.inl (some (.int (if (a >>> (k &&& 31)) &&& 1 = 1 then 1 else 0))), h) := by
  simp only [cr_2, eb_2_0, eb_2_13, eb_2_14, jx_ns_r, jx_ns_n, jx_ns_q, jx_ns_i, jx_gl_0, jx_gl_s, if_true, if_false, ite_true, ite_false, eq_self, Bool.false_eq_true, List.length_cons, List.length_nil, Nat.zero_le, Nat.reduceAdd, Nat.reduceSub, Nat.reduceLeDiff, Nat.reduceLT, Nat.reduceEqDiff, Int.reduceToNat, reduceIte, xk_iload, jx_iv_i, ak_I, xe_ishr, xe_iconst, xi_1, xx_1, xe_iand, xe_icmp_ne, xe_goto, xi_0, xx_0, xe_goto_w, xe_zreturn, xZ]
  split <;> rfl
theorem cq_inL {d : Nat} {a l u : Int64} {h : jx_H} : jx_cr (d + 1) 1 [.long a, .long l, .long u] h = some (.inl (some (.int (if l ≤ a ∧ a ≤ u then 1 else 0))), h) := by
  have e1 : lg_cmp a l < 0 ↔ ¬ l ≤ a := by rw [lg_cmp_lt]; exact Int64.not_le.symm
  have e2 : 0 < lg_cmp a u ↔ ¬ a ≤ u := by rw [lg_cmp_gt]; exact Int64.not_le.symm
  simp only [cr_1, eb_1_0, eb_1_17, eb_1_18, jx_ns_r, jx_ns_n, jx_ns_q, jx_ns_i, jx_gl_0, jx_gl_s, if_true, if_false, ite_true, ite_false, eq_self, Bool.false_eq_true, List.length_cons, List.length_nil, Nat.zero_le, Nat.reduceAdd, Nat.reduceSub, Nat.reduceLeDiff, Nat.reduceLT, Nat.reduceEqDiff, Int.reduceToNat, reduceIte, xk_lload, jx_lv_l, ak_L, xe_lcmp, xe_iflt, xe_ifgt, xe_iconst, xi_1, xx_1, xe_goto, xi_0, xx_0, xe_goto_w, xe_zreturn, xZ]
  by_cases q1 : l ≤ a <;> by_cases q2 : a ≤ u <;> simp only [e1, e2, q1, q2, not_true, not_false_eq_true, if_true, if_false, true_and, and_true, and_false, and_self]
/-- a person's rank up to the thing n -/
def cq_rk (T : Int32) (R : Nat → Int32) : Nat → Int32
  | 0 => 0
  | n + 1 => cq_rk T R n + (if (T >>> (nI n &&& 31)) &&& 1 = 1 then R n else 0)
/-- how many have the thing t -/
def cq_ti (T : Nat → Int32) (t : Int32) : Nat → Int32
  | 0 => 0
  | n + 1 => cq_ti T t n + (if (T n >>> (t &&& 31)) &&& 1 = 1 then 1 else 0)
/-- who has a title -/
def cq_kn (T : Nat → Int32) : Nat → Int32
  | 0 => 0
  | n + 1 => cq_kn T n ||| (if T n = 0 then (0 : Int32) else (1 : Int32) <<< (nI n &&& 31))
def cq_ra (T : Nat → Int32) (R : Nat → Int32) (tm : Nat) : Nat → Int32
  | 0 => 0
  | n + 1 => cq_ra T R tm n + cq_rk (T n) R tm
def cq_bc (x : Int32) : Int32 :=
  let a := x - ((x.toUInt32 >>> ((1 : Int32).toUInt32 &&& Int32.toUInt32 31)).toInt32 &&& 1431655765)
  let b := (a &&& 858993459) + ((a.toUInt32 >>> ((2 : Int32).toUInt32 &&& Int32.toUInt32 31)).toInt32 &&& 858993459)
  let c := (b + (b.toUInt32 >>> ((4 : Int32).toUInt32 &&& Int32.toUInt32 31)).toInt32) &&& 252645135
  let e := c + (c.toUInt32 >>> ((8 : Int32).toUInt32 &&& Int32.toUInt32 31)).toInt32
  let f := e + (e.toUInt32 >>> ((16 : Int32).toUInt32 &&& Int32.toUInt32 31)).toInt32
  f &&& 63
theorem cq_bitCount {d : Nat} {x : Int32} {h : jx_H} : jx_cr (d + 1) 227 [.int x] h = some (.inl (some (.int (cq_bc x))), h) := by
  simp only [cr_227, eb_227_0, jx_ns_r, jx_ns_n, jx_ns_q, jx_ns_i, jx_gl_0, jx_gl_s, if_true, if_false, ite_true, ite_false, eq_self, Bool.false_eq_true, List.length_cons, List.length_nil, Nat.zero_le, Nat.reduceAdd, Nat.reduceSub, Nat.reduceLeDiff, Nat.reduceLT, Nat.reduceEqDiff, Int.reduceToNat, reduceIte, xk_iload, jx_iv_i, ak_I, xe_iconst, xi_1, xx_1, xe_iushr, xi_1431655765, xe_iand, xe_isub, xe_istore, xi_858993459, xi_2, xx_2, xe_iadd, xi_4, xx_4, xi_252645135, xi_8, xx_8, xi_16, xx_16, xi_63, xe_ireturn, jx_s1, List.set_cons_zero, List.set_cons_succ, jx_2_i, jx_2_l, jx_2_r, jx_2_n, jx_2_u, jx_2_s, jx_2_q, jx_k_i, jx_k_l, jx_k_r, jx_k_n, jx_k_u, jx_k_s, jx_k_q]
  rfl
section CS
variable {d : Nat} {h : jx_H} {b p tm pm : Nat} {s : Nat → Int32} {a : Nat → Nat → Int32} {w : Nat → Int64}
theorem cq_rankOf (hp : p < 6) (htm : tm ≤ 6) (es : s 2 = nI tm) : jx_cr (d + 2) 172 [.ref b, .int (nI p)] (cq_put h b (s, a, w)) = some (.inl (some (.int (cq_rk (a 8 p) (a 0) tm))), cq_put h b (s, a, w)) := by
  have h1 : jx_ix (nI p) 6 = some p := by rw [jx_ix_n (by omega), if_pos hp]
  have loop : ∀ m t, t + m = tm → jx_eb (d + 1) 172 4 [.ref b, .int (nI p), .int (cq_rk (a 8 p) (a 0) t), .int (nI t)] [] (cq_put h b (s, a, w)) = some (.inl (some (.int (cq_rk (a 8 p) (a 0) tm))), cq_put h b (s, a, w)) := by
    intro m
    induction m with
    | zero =>
      intro t ht
      have : t = tm := by omega
      subst this
      simp only [eb_172_0, eb_172_4, eb_172_35, eb_172_36, eb_172_44, jx_ns_r, jx_ns_n, jx_ns_q, jx_ns_i, jx_gl_0, jx_gl_s, if_true, if_false, ite_true, ite_false, eq_self, Bool.false_eq_true, List.length_cons, List.length_nil, Nat.zero_le, Nat.reduceAdd, Nat.reduceSub, Nat.reduceLeDiff, Nat.reduceLT, Nat.reduceEqDiff, Int.reduceToNat, reduceIte, xe_iconst, xi_0, xx_0, xe_istore, xe_goto_w, xk_iload, jx_iv_i, ak_I, xe_aload, jx_rv_r, jx_rv_n, jx_rv_q, xk_getf, jx_gf_i, jx_ov_s, ak_V, xe_icmp_ge, xk_iald, ja_ia, ak_A, true_or, or_true, xe_sta2, jx_cc_i, jx_cc_v, Nat.reduceMod, Nat.reduceDiv, xe_ifeq, xe_goto, xe_iadd, xk_iinc, ak_C, xi_1, xe_ireturn, jx_s1, List.set_cons_zero, List.set_cons_succ, jx_2_i, jx_2_l, jx_2_r, jx_2_n, jx_2_u, jx_2_s, jx_2_q, jx_k_i, jx_k_l, jx_k_r, jx_k_n, jx_k_u, jx_k_s, jx_k_q, cq_r, cq_f, es, nI_leI (show t < 2 ^ 31 by omega) (show t < 2 ^ 31 by omega), Nat.le_refl]
    | succ m ih =>
      intro t ht
      have h2 : jx_ix (nI t) 6 = some t := by rw [jx_ix_n (by omega), if_pos (by omega)]
      have h3 : ¬ nI tm ≤ nI t := nI_ge (by omega) (by omega)
      have ih := ih (t + 1) (by omega)
      simp only [cq_rk, ← nI_1] at ih
      rw [eb_172_4]
      simp only [eb_172_0, eb_172_35, eb_172_36, eb_172_44, jx_ns_r, jx_ns_n, jx_ns_q, jx_ns_i, jx_gl_0, jx_gl_s, if_true, if_false, ite_true, ite_false, eq_self, Bool.false_eq_true, List.length_cons, List.length_nil, Nat.zero_le, Nat.reduceAdd, Nat.reduceSub, Nat.reduceLeDiff, Nat.reduceLT, Nat.reduceEqDiff, Int.reduceToNat, reduceIte, xe_iconst, xi_0, xx_0, xe_istore, xe_goto_w, xk_iload, jx_iv_i, ak_I, xe_aload, jx_rv_r, jx_rv_n, jx_rv_q, xk_getf, jx_gf_i, jx_ov_s, ak_V, xe_icmp_ge, xk_iald, ja_ia, ak_A, true_or, or_true, xe_sta2, jx_cc_i, jx_cc_v, Nat.reduceMod, Nat.reduceDiv, xe_ifeq, xe_goto, xe_iadd, xk_iinc, ak_C, xi_1, xe_ireturn, jx_s1, List.set_cons_zero, List.set_cons_succ, jx_2_i, jx_2_l, jx_2_r, jx_2_n, jx_2_u, jx_2_s, jx_2_q, jx_k_i, jx_k_l, jx_k_r, jx_k_n, jx_k_u, jx_k_s, jx_k_q, cq_r, cq_f, es, h1, h2, h3, cq_has]
      split
      · rename_i q
        simp only [q, if_true] at ih
        exact ih
      · rename_i q
        simp only [q, if_false] at ih
        exact ih
  have := loop tm 0 (by omega)
  simp only [cq_rk] at this
  simp only [cr_172, eb_172_0, jx_ns_r, jx_ns_n, jx_ns_q, jx_ns_i, jx_gl_0, jx_gl_s, if_true, if_false, ite_true, ite_false, eq_self, Bool.false_eq_true, List.length_cons, List.length_nil, Nat.zero_le, Nat.reduceAdd, Nat.reduceSub, Nat.reduceLeDiff, Nat.reduceLT, Nat.reduceEqDiff, Int.reduceToNat, reduceIte, xe_iconst, xi_0, xx_0, xe_istore, xe_goto_w, xk_iload, jx_iv_i, ak_I, xe_aload, jx_rv_r, jx_rv_n, jx_rv_q, xk_getf, jx_gf_i, jx_ov_s, ak_V, xe_icmp_ge, xk_iald, ja_ia, ak_A, true_or, or_true, xe_sta2, jx_cc_i, jx_cc_v, Nat.reduceMod, Nat.reduceDiv, xe_ifeq, xe_goto, xe_iadd, xk_iinc, ak_C, xi_1, xe_ireturn, jx_s1, List.set_cons_zero, List.set_cons_succ, jx_2_i, jx_2_l, jx_2_r, jx_2_n, jx_2_u, jx_2_s, jx_2_q, jx_k_i, jx_k_l, jx_k_r, jx_k_n, jx_k_u, jx_k_s, jx_k_q, nI_0]
  rw [nI_0] at this
  exact this
theorem cq_titled {t : Int32} (hpm : pm ≤ 6) (es : s 3 = nI pm) : jx_cr (d + 2) 174 [.ref b, .int t] (cq_put h b (s, a, w)) = some (.inl (some (.int (cq_ti (a 8) t pm))), cq_put h b (s, a, w)) := by
  have loop : ∀ m p, p + m = pm → jx_eb (d + 1) 174 4 [.ref b, .int t, .int (cq_ti (a 8) t p), .int (nI p)] [] (cq_put h b (s, a, w)) = some (.inl (some (.int (cq_ti (a 8) t pm))), cq_put h b (s, a, w)) := by
    intro m
    induction m with
    | zero =>
      intro p hp
      have : p = pm := by omega
      subst this
      simp only [eb_174_0, eb_174_4, eb_174_30, eb_174_31, eb_174_39, jx_ns_r, jx_ns_n, jx_ns_q, jx_ns_i, jx_gl_0, jx_gl_s, if_true, if_false, ite_true, ite_false, eq_self, Bool.false_eq_true, List.length_cons, List.length_nil, Nat.zero_le, Nat.reduceAdd, Nat.reduceSub, Nat.reduceLeDiff, Nat.reduceLT, Nat.reduceEqDiff, Int.reduceToNat, reduceIte, xe_iconst, xi_0, xx_0, xe_istore, xe_goto_w, xk_iload, jx_iv_i, ak_I, xe_aload, jx_rv_r, jx_rv_n, jx_rv_q, xk_getf, jx_gf_i, jx_ov_s, ak_V, xe_icmp_ge, xk_iald, ja_ia, ak_A, true_or, or_true, xe_sta2, jx_cc_i, jx_cc_v, Nat.reduceMod, Nat.reduceDiv, xe_ifeq, xi_1, xx_1, xe_goto, xe_iadd, xk_iinc, ak_C, xe_ireturn, jx_s1, List.set_cons_zero, List.set_cons_succ, jx_2_i, jx_2_l, jx_2_r, jx_2_n, jx_2_u, jx_2_s, jx_2_q, jx_k_i, jx_k_l, jx_k_r, jx_k_n, jx_k_u, jx_k_s, jx_k_q, cq_r, cq_f, es, nI_leI (show p < 2 ^ 31 by omega) (show p < 2 ^ 31 by omega), Nat.le_refl]
    | succ m ih =>
      intro p hp
      have h2 : jx_ix (nI p) 6 = some p := by rw [jx_ix_n (by omega), if_pos (by omega)]
      have h3 : ¬ nI pm ≤ nI p := nI_ge (by omega) (by omega)
      have ih := ih (p + 1) (by omega)
      simp only [cq_ti, ← nI_1] at ih
      rw [eb_174_4]
      simp only [eb_174_0, eb_174_30, eb_174_31, eb_174_39, jx_ns_r, jx_ns_n, jx_ns_q, jx_ns_i, jx_gl_0, jx_gl_s, if_true, if_false, ite_true, ite_false, eq_self, Bool.false_eq_true, List.length_cons, List.length_nil, Nat.zero_le, Nat.reduceAdd, Nat.reduceSub, Nat.reduceLeDiff, Nat.reduceLT, Nat.reduceEqDiff, Int.reduceToNat, reduceIte, xe_iconst, xi_0, xx_0, xe_istore, xe_goto_w, xk_iload, jx_iv_i, ak_I, xe_aload, jx_rv_r, jx_rv_n, jx_rv_q, xk_getf, jx_gf_i, jx_ov_s, ak_V, xe_icmp_ge, xk_iald, ja_ia, ak_A, true_or, or_true, xe_sta2, jx_cc_i, jx_cc_v, Nat.reduceMod, Nat.reduceDiv, xe_ifeq, xi_1, xx_1, xe_goto, xe_iadd, xk_iinc, ak_C, xe_ireturn, jx_s1, List.set_cons_zero, List.set_cons_succ, jx_2_i, jx_2_l, jx_2_r, jx_2_n, jx_2_u, jx_2_s, jx_2_q, jx_k_i, jx_k_l, jx_k_r, jx_k_n, jx_k_u, jx_k_s, jx_k_q, cq_r, cq_f, es, h2, h3, cq_has]
      split
      · rename_i q
        simp only [q, if_true] at ih
        exact ih
      · rename_i q
        simp only [q, if_false] at ih
        exact ih
  have := loop pm 0 (by omega)
  simp only [cq_ti] at this
  simp only [cr_174, eb_174_0, jx_ns_r, jx_ns_n, jx_ns_q, jx_ns_i, jx_gl_0, jx_gl_s, if_true, if_false, ite_true, ite_false, eq_self, Bool.false_eq_true, List.length_cons, List.length_nil, Nat.zero_le, Nat.reduceAdd, Nat.reduceSub, Nat.reduceLeDiff, Nat.reduceLT, Nat.reduceEqDiff, Int.reduceToNat, reduceIte, xe_iconst, xi_0, xx_0, xe_istore, xe_goto_w, xk_iload, jx_iv_i, ak_I, xe_aload, jx_rv_r, jx_rv_n, jx_rv_q, xk_getf, jx_gf_i, jx_ov_s, ak_V, xe_icmp_ge, xk_iald, ja_ia, ak_A, true_or, or_true, xe_sta2, jx_cc_i, jx_cc_v, Nat.reduceMod, Nat.reduceDiv, xe_ifeq, xi_1, xx_1, xe_goto, xe_iadd, xk_iinc, ak_C, xe_ireturn, jx_s1, List.set_cons_zero, List.set_cons_succ, jx_2_i, jx_2_l, jx_2_r, jx_2_n, jx_2_u, jx_2_s, jx_2_q, jx_k_i, jx_k_l, jx_k_r, jx_k_n, jx_k_u, jx_k_s, jx_k_q, nI_0]
  rw [nI_0] at this
  exact this
theorem cq_knights (hpm : pm ≤ 6) (es : s 3 = nI pm) : jx_cr (d + 1) 175 [.ref b] (cq_put h b (s, a, w)) = some (.inl (some (.int (cq_kn (a 8) pm))), cq_put h b (s, a, w)) := by
  have loop : ∀ m p, p + m = pm → jx_eb d 175 4 [.ref b, .int (cq_kn (a 8) p), .int (nI p)] [] (cq_put h b (s, a, w)) = some (.inl (some (.int (cq_kn (a 8) pm))), cq_put h b (s, a, w)) := by
    intro m
    induction m with
    | zero =>
      intro p hp
      have : p = pm := by omega
      subst this
      simp only [eb_175_0, eb_175_4, eb_175_28, eb_175_29, eb_175_37, jx_ns_r, jx_ns_n, jx_ns_q, jx_ns_i, jx_gl_0, jx_gl_s, if_true, if_false, ite_true, ite_false, eq_self, Bool.false_eq_true, List.length_cons, List.length_nil, Nat.zero_le, Nat.reduceAdd, Nat.reduceSub, Nat.reduceLeDiff, Nat.reduceLT, Nat.reduceEqDiff, Int.reduceToNat, reduceIte, xe_iconst, xi_0, xx_0, xe_istore, xe_goto_w, xk_iload, jx_iv_i, ak_I, xe_aload, jx_rv_r, jx_rv_n, jx_rv_q, xk_getf, jx_gf_i, jx_ov_s, ak_V, xe_icmp_ge, xk_iald, ja_ia, ak_A, true_or, or_true, xe_ifeq, xi_1, xx_1, xe_ishl, xe_goto, xe_ior, xk_iinc, ak_C, xe_ireturn, jx_s1, List.set_cons_zero, List.set_cons_succ, jx_2_i, jx_2_l, jx_2_r, jx_2_n, jx_2_u, jx_2_s, jx_2_q, jx_k_i, jx_k_l, jx_k_r, jx_k_n, jx_k_u, jx_k_s, jx_k_q, cq_r, cq_f, es, nI_leI (show p < 2 ^ 31 by omega) (show p < 2 ^ 31 by omega), Nat.le_refl]
    | succ m ih =>
      intro p hp
      have h2 : jx_ix (nI p) 6 = some p := by rw [jx_ix_n (by omega), if_pos (by omega)]
      have h3 : ¬ nI pm ≤ nI p := nI_ge (by omega) (by omega)
      have ih := ih (p + 1) (by omega)
      simp only [cq_kn, ← nI_1] at ih
      rw [eb_175_4]
      simp only [eb_175_0, eb_175_28, eb_175_29, eb_175_37, jx_ns_r, jx_ns_n, jx_ns_q, jx_ns_i, jx_gl_0, jx_gl_s, if_true, if_false, ite_true, ite_false, eq_self, Bool.false_eq_true, List.length_cons, List.length_nil, Nat.zero_le, Nat.reduceAdd, Nat.reduceSub, Nat.reduceLeDiff, Nat.reduceLT, Nat.reduceEqDiff, Int.reduceToNat, reduceIte, xe_iconst, xi_0, xx_0, xe_istore, xe_goto_w, xk_iload, jx_iv_i, ak_I, xe_aload, jx_rv_r, jx_rv_n, jx_rv_q, xk_getf, jx_gf_i, jx_ov_s, ak_V, xe_icmp_ge, xk_iald, ja_ia, ak_A, true_or, or_true, xe_ifeq, xi_1, xx_1, xe_ishl, xe_goto, xe_ior, xk_iinc, ak_C, xe_ireturn, jx_s1, List.set_cons_zero, List.set_cons_succ, jx_2_i, jx_2_l, jx_2_r, jx_2_n, jx_2_u, jx_2_s, jx_2_q, jx_k_i, jx_k_l, jx_k_r, jx_k_n, jx_k_u, jx_k_s, jx_k_q, cq_r, cq_f, es, h2, h3]
      split
      · rename_i q
        simp only [q, if_true] at ih
        exact ih
      · rename_i q
        simp only [q, if_false] at ih
        exact ih
  have := loop pm 0 (by omega)
  simp only [cq_kn] at this
  simp only [cr_175, eb_175_0, jx_ns_r, jx_ns_n, jx_ns_q, jx_ns_i, jx_gl_0, jx_gl_s, if_true, if_false, ite_true, ite_false, eq_self, Bool.false_eq_true, List.length_cons, List.length_nil, Nat.zero_le, Nat.reduceAdd, Nat.reduceSub, Nat.reduceLeDiff, Nat.reduceLT, Nat.reduceEqDiff, Int.reduceToNat, reduceIte, xe_iconst, xi_0, xx_0, xe_istore, xe_goto_w, xk_iload, jx_iv_i, ak_I, xe_aload, jx_rv_r, jx_rv_n, jx_rv_q, xk_getf, jx_gf_i, jx_ov_s, ak_V, xe_icmp_ge, xk_iald, ja_ia, ak_A, true_or, or_true, xe_ifeq, xi_1, xx_1, xe_ishl, xe_goto, xe_ior, xk_iinc, ak_C, xe_ireturn, jx_s1, List.set_cons_zero, List.set_cons_succ, jx_2_i, jx_2_l, jx_2_r, jx_2_n, jx_2_u, jx_2_s, jx_2_q, jx_k_i, jx_k_l, jx_k_r, jx_k_n, jx_k_u, jx_k_s, jx_k_q, nI_0]
  rw [nI_0] at this
  exact this
theorem cq_rankAll (htm : tm ≤ 6) (et : s 2 = nI tm) (hpm : pm ≤ 6) (es : s 3 = nI pm) : jx_cr (d + 3) 173 [.ref b] (cq_put h b (s, a, w)) = some (.inl (some (.int (cq_ra (a 8) (a 0) tm pm))), cq_put h b (s, a, w)) := by
  have loop : ∀ m p, p + m = pm → jx_eb (d + 2) 173 4 [.ref b, .int (cq_ra (a 8) (a 0) tm p), .int (nI p)] [] (cq_put h b (s, a, w)) = some (.inl (some (.int (cq_ra (a 8) (a 0) tm pm))), cq_put h b (s, a, w)) := by
    intro m
    induction m with
    | zero =>
      intro p hp
      have : p = pm := by omega
      subst this
      simp only [eb_173_0, eb_173_4, eb_173_26, jx_ns_r, jx_ns_n, jx_ns_q, jx_ns_i, jx_gl_0, jx_gl_s, if_true, if_false, ite_true, ite_false, eq_self, Bool.false_eq_true, List.length_cons, List.length_nil, Nat.zero_le, Nat.reduceAdd, Nat.reduceSub, Nat.reduceLeDiff, Nat.reduceLT, Nat.reduceEqDiff, Int.reduceToNat, reduceIte, xe_iconst, xi_0, xx_0, xe_istore, xe_goto_w, xk_iload, jx_iv_i, ak_I, xe_aload, jx_rv_r, jx_rv_n, jx_rv_q, xk_getf, jx_gf_i, jx_ov_s, ak_V, xe_icmp_ge, xe_inv1, jx_cc_i, jx_cc_v, Nat.reduceMod, Nat.reduceDiv, jx_cl9_i, xe_iadd, xk_iinc, ak_C, xi_1, xe_goto, xe_ireturn, jx_s1, List.set_cons_zero, List.set_cons_succ, jx_2_i, jx_2_l, jx_2_r, jx_2_n, jx_2_u, jx_2_s, jx_2_q, jx_k_i, jx_k_l, jx_k_r, jx_k_n, jx_k_u, jx_k_s, jx_k_q, cq_r, cq_f, es, nI_leI (show p < 2 ^ 31 by omega) (show p < 2 ^ 31 by omega), Nat.le_refl]
    | succ m ih =>
      intro p hp
      have h3 : ¬ nI pm ≤ nI p := nI_ge (by omega) (by omega)
      have hr := fun (d : Nat) => cq_rankOf (d := d) (h := h) (b := b) (p := p) (a := a) (w := w) (by omega) htm et
      have ih := ih (p + 1) (by omega)
      simp only [cq_ra, ← nI_1] at ih
      rw [eb_173_4]
      simp only [eb_173_0, eb_173_26, jx_ns_r, jx_ns_n, jx_ns_q, jx_ns_i, jx_gl_0, jx_gl_s, if_true, if_false, ite_true, ite_false, eq_self, Bool.false_eq_true, List.length_cons, List.length_nil, Nat.zero_le, Nat.reduceAdd, Nat.reduceSub, Nat.reduceLeDiff, Nat.reduceLT, Nat.reduceEqDiff, Int.reduceToNat, reduceIte, xe_iconst, xi_0, xx_0, xe_istore, xe_goto_w, xk_iload, jx_iv_i, ak_I, xe_aload, jx_rv_r, jx_rv_n, jx_rv_q, xk_getf, jx_gf_i, jx_ov_s, ak_V, xe_icmp_ge, xe_inv1, jx_cc_i, jx_cc_v, Nat.reduceMod, Nat.reduceDiv, jx_cl9_i, xe_iadd, xk_iinc, ak_C, xi_1, xe_goto, xe_ireturn, jx_s1, List.set_cons_zero, List.set_cons_succ, jx_2_i, jx_2_l, jx_2_r, jx_2_n, jx_2_u, jx_2_s, jx_2_q, jx_k_i, jx_k_l, jx_k_r, jx_k_n, jx_k_u, jx_k_s, jx_k_q, cq_r, cq_f, es, h3, hr]
      exact ih
  have := loop pm 0 (by omega)
  simp only [cq_ra] at this
  simp only [cr_173, eb_173_0, jx_ns_r, jx_ns_n, jx_ns_q, jx_ns_i, jx_gl_0, jx_gl_s, if_true, if_false, ite_true, ite_false, eq_self, Bool.false_eq_true, List.length_cons, List.length_nil, Nat.zero_le, Nat.reduceAdd, Nat.reduceSub, Nat.reduceLeDiff, Nat.reduceLT, Nat.reduceEqDiff, Int.reduceToNat, reduceIte, xe_iconst, xi_0, xx_0, xe_istore, xe_goto_w, xk_iload, jx_iv_i, ak_I, xe_aload, jx_rv_r, jx_rv_n, jx_rv_q, xk_getf, jx_gf_i, jx_ov_s, ak_V, xe_icmp_ge, xe_inv1, jx_cc_i, jx_cc_v, Nat.reduceMod, Nat.reduceDiv, jx_cl9_i, xe_iadd, xk_iinc, ak_C, xi_1, xe_goto, xe_ireturn, jx_s1, List.set_cons_zero, List.set_cons_succ, jx_2_i, jx_2_l, jx_2_r, jx_2_n, jx_2_u, jx_2_s, jx_2_q, jx_k_i, jx_k_l, jx_k_r, jx_k_n, jx_k_u, jx_k_s, jx_k_q, nI_0]
  rw [nI_0] at this
  exact this
def cq_mn (x : Int32) : Int32 := if x < 999 then x else 999
theorem cq_thanked {x : Int32} (hp : p < 6) : jx_cr (d + 1) 176 [.ref b, .int (nI p), .int x] (cq_put h b (s, a, w)) = some (.inl none, cq_put h b (s, va_up a 7 (upd (a 7) p (cq_mn (a 7 p + x))), w)) := by
  have h1 : jx_ix (nI p) 6 = some p := by rw [jx_ix_n (by omega), if_pos hp]
  simp only [cr_176, eb_176_0, jx_ns_r, jx_ns_n, jx_ns_q, jx_ns_i, jx_gl_0, jx_gl_s, if_true, if_false, ite_true, ite_false, eq_self, Bool.false_eq_true, List.length_cons, List.length_nil, Nat.zero_le, Nat.reduceAdd, Nat.reduceSub, Nat.reduceLeDiff, Nat.reduceLT, Nat.reduceEqDiff, Int.reduceToNat, reduceIte, xe_aload, jx_rv_r, jx_rv_n, jx_rv_q, xk_getf, jx_gf_i, jx_ov_s, ak_V, xk_iload, jx_iv_i, ak_I, xe_iconst, xi_999, xk_iald, ja_ia, ak_A, true_or, or_true, xe_iadd, xe_min, xk_iast, ja_is, ak_S, ak_P, xe_return, cq_r, cq_f, h1, cq_wr, cq_mn]
theorem cq_dubs (hp : p < 6) : jx_cr (d + 1) 179 [.ref b, .int (nI p)] (cq_put h b (s, a, w)) = some (.inl none, cq_put h b (s, va_up (if s 8 = -1 then va_up a 9 (upd (a 9) p (a 9 p + 1)) else va_up a 8 (upd (a 8) p (a 8 p ||| (1 : Int32) <<< (s 8 &&& 31)))) 7 (upd (a 7) p 0), w)) := by
  have h1 : jx_ix (nI p) 6 = some p := by rw [jx_ix_n (by omega), if_pos hp]
  by_cases q : s 8 = -1
  · simp only [cr_179, eb_179_0, eb_179_21, eb_179_36, jx_ns_r, jx_ns_n, jx_ns_q, jx_ns_i, jx_gl_0, jx_gl_s, if_true, if_false, ite_true, ite_false, eq_self, Bool.false_eq_true, List.length_cons, List.length_nil, Nat.zero_le, Nat.reduceAdd, Nat.reduceSub, Nat.reduceLeDiff, Nat.reduceLT, Nat.reduceEqDiff, Int.reduceToNat, reduceIte, xe_aload, jx_rv_r, jx_rv_n, jx_rv_q, xk_getf, jx_gf_i, jx_ov_s, ak_V, xe_iconst, xi_m1, xe_icmp_ne, xk_iload, jx_iv_i, ak_I, xe_dup2, jx_2_i, jx_2_l, jx_2_r, jx_2_n, jx_2_q, or_self, xk_iald, ja_ia, ak_A, true_or, or_true, xi_1, xx_1, xe_iadd, xk_iast, ja_is, ak_S, ak_P, xe_goto, xe_ishl, xe_ior, xe_goto_w, xi_0, xx_0, xe_return, cq_r, cq_f, h1, cq_wr, q, va_up_s, Nat.reduceEqDiff]
  · simp only [cr_179, eb_179_0, eb_179_21, eb_179_36, jx_ns_r, jx_ns_n, jx_ns_q, jx_ns_i, jx_gl_0, jx_gl_s, if_true, if_false, ite_true, ite_false, eq_self, Bool.false_eq_true, List.length_cons, List.length_nil, Nat.zero_le, Nat.reduceAdd, Nat.reduceSub, Nat.reduceLeDiff, Nat.reduceLT, Nat.reduceEqDiff, Int.reduceToNat, reduceIte, xe_aload, jx_rv_r, jx_rv_n, jx_rv_q, xk_getf, jx_gf_i, jx_ov_s, ak_V, xe_iconst, xi_m1, xe_icmp_ne, xk_iload, jx_iv_i, ak_I, xe_dup2, jx_2_i, jx_2_l, jx_2_r, jx_2_n, jx_2_q, or_self, xk_iald, ja_ia, ak_A, true_or, or_true, xi_1, xx_1, xe_iadd, xk_iast, ja_is, ak_S, ak_P, xe_goto, xe_ishl, xe_ior, xe_goto_w, xi_0, xx_0, xe_return, cq_r, cq_f, h1, cq_wr, q, va_up_s, Nat.reduceEqDiff]
end CS
