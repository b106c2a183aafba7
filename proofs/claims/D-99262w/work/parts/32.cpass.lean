/-! court: passes, goesOn -/
set_option maxRecDepth 100000
theorem cq_fl_k {n : Nat} {F g : Nat → Int32} (e : g n = F n) : cq_fl n F g = cq_fl (n + 1) F g := by
  rw [← cq_fl_s]
  funext k
  simp only [upd]
  by_cases q : k = n
  · subst q; rw [if_pos rfl, cq_fl_ge (by omega), e]
  · rw [if_neg q]
def cq_th (a : Nat → Nat → Int32) (p : Nat) : Int32 := cq_mn (a 7 p + a 4 p)
/-- who is dubbed -/
def cq_who (T : Nat → Int32) (o : Int32) : Nat → Int32
  | 0 => 0
  | n + 1 => if T n < o then cq_who T o n else cq_who T o n ||| (1 : Int32) <<< (nI n &&& 31)
def cq_psa (s : Nat → Int32) (a : Nat → Nat → Int32) (pm : Nat) (pk : Int32) (j : Nat) : Nat → Int32 :=
  if j = 6 then (if pk = -1 then a 6 else upd (a 6) pk.toNatClampNeg (a 6 pk.toNatClampNeg + 1))
  else if j = 7 then cq_fl pm (fun p => if cq_th a p < s 1 then cq_th a p else 0) (a 7)
  else if j = 8 then (if pk = -1 then a 8 else cq_fl pm (fun p => if cq_th a p < s 1 then a 8 p else a 8 p ||| (1 : Int32) <<< (pk &&& 31)) (a 8))
  else if j = 9 then (if pk = -1 then cq_fl pm (fun p => if cq_th a p < s 1 then a 9 p else a 9 p + 1) (a 9) else a 9)
  else a j
def cq_pss (s : Nat → Int32) (pk : Int32) (k : Nat) : Int32 := if k = 7 then s 7 + 1 else if k = 8 then pk else if k = 9 then -1 else if k = 10 then (if 0 < s 10 - 1 then s 10 - 1 else 0) else s k
section CP
variable {d D : Nat} {h : jx_H} {b tm pm m t : Nat} {s : Nat → Int32} {a : Nat → Nat → Int32} {w : Nat → Int64} {lw : Value} {pk : Int32}
theorem cq_psT (hpm : pm ≤ 6) (es : s 3 = nI pm) : ∀ n p, p + n = pm → ∀ W, jx_eb (d + 1) 180 53 [.ref b, lw, W, .int (nI p)] [] (cq_put h b (s, va_up a 7 (cq_fl p (cq_th a) (a 7)), w)) = jx_eb (d + 1) 180 78 [.ref b, lw, W, .int (nI pm)] [] (cq_put h b (s, va_up a 7 (cq_fl pm (cq_th a) (a 7)), w)) := by
  intro n
  induction n with
  | zero =>
    intro p hp W
    have : p = pm := by omega
    subst this
    simp only [eb_180_53, jx_ns_r, jx_ns_n, jx_ns_q, jx_ns_i, jx_gl_0, jx_gl_s, if_true, if_false, ite_true, ite_false, eq_self, Bool.false_eq_true, List.length_cons, List.length_nil, Nat.zero_le, Nat.reduceAdd, Nat.reduceSub, Nat.reduceLeDiff, Nat.reduceLT, Nat.reduceEqDiff, Int.reduceToNat, reduceIte, xe_aload, jx_rv_r, jx_rv_n, jx_rv_q, xe_inv1, jx_cc_i, jx_cc_v, Nat.reduceMod, Nat.reduceDiv, jx_cl9_i, xk_putf, ak_P, jx_pf_i, jx_pf_z, jx_pf_l, jx_pf_r, jx_pf_n, jx_pf_q, xk_getf, jx_gf_i, jx_ov_s, ak_V, xe_iconst, xi_m1, xe_icmp_eq, xe_dup2, jx_2_i, jx_2_l, jx_2_r, jx_2_n, jx_2_q, or_self, xk_iald, ja_ia, ak_A, ak_I, true_or, or_true, xi_1, xx_1, xe_iadd, xk_iast, ja_is, ak_S, xe_goto_w, xi_0, xx_0, xe_isub, xe_max, xe_istore, xk_iload, jx_iv_i, xe_icmp_ge, xe_inv2, xk_iinc, ak_C, xe_goto, xe_ishl, xe_ior, xe_dup, xe_ireturn, jx_s1, List.set_cons_zero, List.set_cons_succ, jx_2_u, jx_2_s, jx_k_i, jx_k_l, jx_k_r, jx_k_n, jx_k_u, jx_k_s, jx_k_q, cq_r, cq_f, es, nI_leI (show p < 2 ^ 31 by omega) (show p < 2 ^ 31 by omega), Nat.le_refl]
  | succ n ih =>
    intro p hp W
    have h2 : jx_ix (nI p) 6 = some p := by rw [jx_ix_n (by omega), if_pos (by omega)]
    have h3 : ¬ nI pm ≤ nI p := nI_ge (by omega) (by omega)
    have ht := fun (x : Int32) (s : Nat → Int32) a => cq_thanked (d := d) (h := h) (b := b) (p := p) (s := s) (a := a) (w := w) (x := x) (by omega)
    rw [← ih (p + 1) (by omega) W, eb_180_53]
    simp only [jx_ns_r, jx_ns_n, jx_ns_q, jx_ns_i, jx_gl_0, jx_gl_s, if_true, if_false, ite_true, ite_false, eq_self, Bool.false_eq_true, List.length_cons, List.length_nil, Nat.zero_le, Nat.reduceAdd, Nat.reduceSub, Nat.reduceLeDiff, Nat.reduceLT, Nat.reduceEqDiff, Int.reduceToNat, reduceIte, xe_aload, jx_rv_r, jx_rv_n, jx_rv_q, xe_inv1, jx_cc_i, jx_cc_v, Nat.reduceMod, Nat.reduceDiv, jx_cl9_i, xk_putf, ak_P, jx_pf_i, jx_pf_z, jx_pf_l, jx_pf_r, jx_pf_n, jx_pf_q, xk_getf, jx_gf_i, jx_ov_s, ak_V, xe_iconst, xi_m1, xe_icmp_eq, xe_dup2, jx_2_i, jx_2_l, jx_2_r, jx_2_n, jx_2_q, or_self, xk_iald, ja_ia, ak_A, ak_I, true_or, or_true, xi_1, xx_1, xe_iadd, xk_iast, ja_is, ak_S, xe_goto_w, xi_0, xx_0, xe_isub, xe_max, xe_istore, xk_iload, jx_iv_i, xe_icmp_ge, xe_inv2, xk_iinc, ak_C, xe_goto, xe_ishl, xe_ior, xe_dup, xe_ireturn, jx_s1, List.set_cons_zero, List.set_cons_succ, jx_2_u, jx_2_s, jx_k_i, jx_k_l, jx_k_r, jx_k_n, jx_k_u, jx_k_s, jx_k_q, cq_r, cq_f, es, h2, h3, ht, va_up_s, nI_1]
    refine congrArg (fun z => jx_eb (d + 1) 180 53 [.ref b, lw, W, .int (nI (p + 1))] [] z) (cq_aE fun j hj => ?_)
    simp only [va_up, ← cq_fl_s, cq_fl_ge (show ¬ p < p by omega), cq_th]
    by_cases q : j = 7 <;> simp only [q, if_true, if_false]
/-- rows in the second loop, p people done -/
def cq_psr (o : Int32) (a : Nat → Nat → Int32) (pm : Nat) (pk : Int32) (p : Nat) (j : Nat) : Nat → Int32 :=
  if j = 7 then cq_fl p (fun p => if cq_th a p < o then cq_th a p else 0) (cq_fl pm (cq_th a) (a 7))
  else if j = 8 then (if pk = -1 then a 8 else cq_fl p (fun p => if cq_th a p < o then a 8 p else a 8 p ||| (1 : Int32) <<< (pk &&& 31)) (a 8))
  else if j = 9 then (if pk = -1 then cq_fl p (fun p => if cq_th a p < o then a 9 p else a 9 p + 1) (a 9) else a 9)
  else a j
theorem cq_psD (hpm : pm ≤ 6) (es : s 3 = nI pm) (ek : s 8 = pk) : ∀ n p, p + n = pm → jx_eb (d + 1) 180 80 [.ref b, lw, .int (cq_who (cq_th a) (s 1) p), .int (nI p)] [] (cq_put h b (s, cq_psr (s 1) a pm pk p, w)) = jx_eb (d + 1) 180 121 [.ref b, lw, .int (cq_who (cq_th a) (s 1) pm), .int (nI pm)] [] (cq_put h b (s, cq_psr (s 1) a pm pk pm, w)) := by
  intro n
  induction n with
  | zero =>
    intro p hp
    have : p = pm := by omega
    subst this
    simp only [eb_180_80, jx_ns_r, jx_ns_n, jx_ns_q, jx_ns_i, jx_gl_0, jx_gl_s, if_true, if_false, ite_true, ite_false, eq_self, Bool.false_eq_true, List.length_cons, List.length_nil, Nat.zero_le, Nat.reduceAdd, Nat.reduceSub, Nat.reduceLeDiff, Nat.reduceLT, Nat.reduceEqDiff, Int.reduceToNat, reduceIte, xe_aload, jx_rv_r, jx_rv_n, jx_rv_q, xe_inv1, jx_cc_i, jx_cc_v, Nat.reduceMod, Nat.reduceDiv, jx_cl9_i, xk_putf, ak_P, jx_pf_i, jx_pf_z, jx_pf_l, jx_pf_r, jx_pf_n, jx_pf_q, xk_getf, jx_gf_i, jx_ov_s, ak_V, xe_iconst, xi_m1, xe_icmp_eq, xe_dup2, jx_2_i, jx_2_l, jx_2_r, jx_2_n, jx_2_q, or_self, xk_iald, ja_ia, ak_A, ak_I, true_or, or_true, xi_1, xx_1, xe_iadd, xk_iast, ja_is, ak_S, xe_goto_w, xi_0, xx_0, xe_isub, xe_max, xe_istore, xk_iload, jx_iv_i, xe_icmp_ge, xe_inv2, xk_iinc, ak_C, xe_goto, xe_ishl, xe_ior, xe_dup, xe_ireturn, jx_s1, List.set_cons_zero, List.set_cons_succ, jx_2_u, jx_2_s, jx_k_i, jx_k_l, jx_k_r, jx_k_n, jx_k_u, jx_k_s, jx_k_q, cq_r, cq_f, es, nI_leI (show p < 2 ^ 31 by omega) (show p < 2 ^ 31 by omega), Nat.le_refl]
  | succ n ih =>
    intro p hp
    have h2 : jx_ix (nI p) 6 = some p := by rw [jx_ix_n (by omega), if_pos (by omega)]
    have h3 : ¬ nI pm ≤ nI p := nI_ge (by omega) (by omega)
    have hd := fun (s : Nat → Int32) a => cq_dubs (d := d) (h := h) (b := b) (p := p) (s := s) (a := a) (w := w) (by omega)
    have e7 : cq_psr (s 1) a pm pk p 7 p = cq_th a p := by
      simp only [cq_psr, if_true]
      rw [cq_fl_ge (by omega), cq_fl_lt (by omega)]
    have e8 : ¬ pk = -1 → cq_psr (s 1) a pm pk p 8 p = a 8 p := by
      intro q
      simp only [cq_psr, q, if_true, if_false, reduceIte, Nat.reduceEqDiff]
      rw [cq_fl_ge (by omega)]
    have e9 : pk = -1 → cq_psr (s 1) a pm pk p 9 p = a 9 p := by
      intro q
      simp only [cq_psr, q, if_true, if_false, reduceIte, Nat.reduceEqDiff]
      rw [cq_fl_ge (by omega)]
    have same : cq_th a p < s 1 → ∀ j, cq_psr (s 1) a pm pk p j = cq_psr (s 1) a pm pk (p + 1) j := by
      intro q j
      simp only [cq_psr]
      rw [← cq_fl_k (n := p) (g := cq_fl pm (cq_th a) (a 7)) (by rw [if_pos q, cq_fl_lt (by omega)]), ← cq_fl_k (n := p) (g := a 8) (by rw [if_pos q]), ← cq_fl_k (n := p) (g := a 9) (by rw [if_pos q])]
    have ih := ih (p + 1) (by omega)
    rw [← ih, eb_180_80]
    by_cases q : cq_th a p < s 1
    · have q' : ¬ s 1 ≤ cq_th a p := Int32.not_le.mpr q
      simp only [eb_180_115, jx_ns_r, jx_ns_n, jx_ns_q, jx_ns_i, jx_gl_0, jx_gl_s, if_true, if_false, ite_true, ite_false, eq_self, Bool.false_eq_true, List.length_cons, List.length_nil, Nat.zero_le, Nat.reduceAdd, Nat.reduceSub, Nat.reduceLeDiff, Nat.reduceLT, Nat.reduceEqDiff, Int.reduceToNat, reduceIte, xe_aload, jx_rv_r, jx_rv_n, jx_rv_q, xe_inv1, jx_cc_i, jx_cc_v, Nat.reduceMod, Nat.reduceDiv, jx_cl9_i, xk_putf, ak_P, jx_pf_i, jx_pf_z, jx_pf_l, jx_pf_r, jx_pf_n, jx_pf_q, xk_getf, jx_gf_i, jx_ov_s, ak_V, xe_iconst, xi_m1, xe_icmp_eq, xe_dup2, jx_2_i, jx_2_l, jx_2_r, jx_2_n, jx_2_q, or_self, xk_iald, ja_ia, ak_A, ak_I, true_or, or_true, xi_1, xx_1, xe_iadd, xk_iast, ja_is, ak_S, xe_goto_w, xi_0, xx_0, xe_isub, xe_max, xe_istore, xk_iload, jx_iv_i, xe_icmp_ge, xe_inv2, xk_iinc, ak_C, xe_goto, xe_ishl, xe_ior, xe_dup, xe_ireturn, jx_s1, List.set_cons_zero, List.set_cons_succ, jx_2_u, jx_2_s, jx_k_i, jx_k_l, jx_k_r, jx_k_n, jx_k_u, jx_k_s, jx_k_q, cq_r, cq_f, es, h2, h3, e7, q, q', nI_1, cq_who]
      exact congrArg (fun z => jx_eb (d + 1) 180 80 [.ref b, lw, .int (cq_who (cq_th a) (s 1) p), .int (nI (p + 1))] [] z) (cq_aE fun j hj => same q j)
    · have q' : s 1 ≤ cq_th a p := Int32.not_lt.mp q
      simp only [eb_180_104, eb_180_115, jx_ns_r, jx_ns_n, jx_ns_q, jx_ns_i, jx_gl_0, jx_gl_s, if_true, if_false, ite_true, ite_false, eq_self, Bool.false_eq_true, List.length_cons, List.length_nil, Nat.zero_le, Nat.reduceAdd, Nat.reduceSub, Nat.reduceLeDiff, Nat.reduceLT, Nat.reduceEqDiff, Int.reduceToNat, reduceIte, xe_aload, jx_rv_r, jx_rv_n, jx_rv_q, xe_inv1, jx_cc_i, jx_cc_v, Nat.reduceMod, Nat.reduceDiv, jx_cl9_i, xk_putf, ak_P, jx_pf_i, jx_pf_z, jx_pf_l, jx_pf_r, jx_pf_n, jx_pf_q, xk_getf, jx_gf_i, jx_ov_s, ak_V, xe_iconst, xi_m1, xe_icmp_eq, xe_dup2, jx_2_i, jx_2_l, jx_2_r, jx_2_n, jx_2_q, or_self, xk_iald, ja_ia, ak_A, ak_I, true_or, or_true, xi_1, xx_1, xe_iadd, xk_iast, ja_is, ak_S, xe_goto_w, xi_0, xx_0, xe_isub, xe_max, xe_istore, xk_iload, jx_iv_i, xe_icmp_ge, xe_inv2, xk_iinc, ak_C, xe_goto, xe_ishl, xe_ior, xe_dup, xe_ireturn, jx_s1, List.set_cons_zero, List.set_cons_succ, jx_2_u, jx_2_s, jx_k_i, jx_k_l, jx_k_r, jx_k_n, jx_k_u, jx_k_s, jx_k_q, cq_r, cq_f, es, h2, h3, e7, q, q', nI_1, cq_who, hd, ek]
      refine congrArg (fun z => jx_eb (d + 1) 180 80 [.ref b, lw, .int (cq_who (cq_th a) (s 1) p ||| (1 : Int32) <<< (nI p &&& 31)), .int (nI (p + 1))] [] z) (cq_aE fun j hj => ?_)
      by_cases r : pk = -1
      · simp only [r, if_true, va_up]
        by_cases j7 : j = 7
        · subst j7
          simp only [cq_psr, if_true, ← cq_fl_s, q, if_false]
        · by_cases j9 : j = 9
          · subst j9
            simp only [cq_psr, if_true, ← cq_fl_s, q, if_false, reduceIte, Nat.reduceEqDiff]
            rw [cq_fl_ge (show ¬ p < p by omega)]
          · simp only [cq_psr, j7, j9, if_true, if_false]
      · simp only [r, if_false, va_up]
        by_cases j7 : j = 7
        · subst j7
          simp only [cq_psr, if_true, ← cq_fl_s, q, if_false]
        · by_cases j8 : j = 8
          · subst j8
            simp only [cq_psr, r, if_true, ← cq_fl_s, q, if_false, reduceIte, Nat.reduceEqDiff]
            rw [cq_fl_ge (show ¬ p < p by omega)]
          · simp only [cq_psr, r, j7, j8, if_true, if_false]
theorem cq_psE (hpm : pm ≤ 6) (es : s 3 = nI pm) (ek : s 8 = pk) {lo : Option Nat} : jx_eb (d + 1) 180 53 [.ref b, va_rf lo, .int 0, .int 0] [] (cq_put h b (s, a, w)) = some (.inl (some (.int (cq_who (cq_th a) (s 1) pm))), cq_put h b (va_up s 7 (s 7 + 1), cq_psr (s 1) a pm pk pm, w)) := by
  have l1 := cq_psT (d := d) (h := h) (b := b) (a := a) (w := w) (lw := va_rf lo) hpm es pm 0 (by omega) (.int 0)
  have l2 := cq_psD (d := d) (h := h) (b := b) (a := a) (w := w) (lw := va_rf lo) hpm es ek pm 0 (by omega)
  rw [cq_fl_0, nI_0] at l1
  rw [nI_0] at l2
  simp only [cq_who] at l2
  have e1 : cq_put h b (s, a, w) = cq_put h b (s, va_up a 7 (a 7), w) := cq_aE fun j hj => by
    simp only [va_up]
    by_cases q : j = 7
    · subst q; rfl
    · rw [if_neg q]
  have e2 : cq_put h b (s, va_up a 7 (cq_fl pm (cq_th a) (a 7)), w) = cq_put h b (s, cq_psr (s 1) a pm pk 0, w) := cq_aE fun j hj => by
    simp only [va_up, cq_psr, cq_fl_0]
    by_cases q : j = 7
    · subst q; rfl
    · rw [if_neg q, if_neg q]
      by_cases q8 : j = 8
      · subst q8; simp only [if_true, ite_self]
      · by_cases q9 : j = 9
        · subst q9; simp only [if_true, ite_self, if_false, reduceIte, Nat.reduceEqDiff]
        · rw [if_neg q8, if_neg q9]
  rw [e1, l1, e2, eb_180_78]
  simp only [jx_ns_r, jx_ns_n, jx_ns_q, jx_ns_i, jx_gl_0, jx_gl_s, if_true, if_false, ite_true, ite_false, eq_self, Bool.false_eq_true, List.length_cons, List.length_nil, Nat.zero_le, Nat.reduceAdd, Nat.reduceSub, Nat.reduceLeDiff, Nat.reduceLT, Nat.reduceEqDiff, Int.reduceToNat, reduceIte, xe_aload, jx_rv_r, jx_rv_n, jx_rv_q, xe_inv1, jx_cc_i, jx_cc_v, Nat.reduceMod, Nat.reduceDiv, jx_cl9_i, xk_putf, ak_P, jx_pf_i, jx_pf_z, jx_pf_l, jx_pf_r, jx_pf_n, jx_pf_q, xk_getf, jx_gf_i, jx_ov_s, ak_V, xe_iconst, xi_m1, xe_icmp_eq, xe_dup2, jx_2_i, jx_2_l, jx_2_r, jx_2_n, jx_2_q, or_self, xk_iald, ja_ia, ak_A, ak_I, true_or, or_true, xi_1, xx_1, xe_iadd, xk_iast, ja_is, ak_S, xe_goto_w, xi_0, xx_0, xe_isub, xe_max, xe_istore, xk_iload, jx_iv_i, xe_icmp_ge, xe_inv2, xk_iinc, ak_C, xe_goto, xe_ishl, xe_ior, xe_dup, xe_ireturn, jx_s1, List.set_cons_zero, List.set_cons_succ, jx_2_u, jx_2_s, jx_k_i, jx_k_l, jx_k_r, jx_k_n, jx_k_u, jx_k_s, jx_k_q]
  rw [l2]
  simp only [eb_180_121, jx_ns_r, jx_ns_n, jx_ns_q, jx_ns_i, jx_gl_0, jx_gl_s, if_true, if_false, ite_true, ite_false, eq_self, Bool.false_eq_true, List.length_cons, List.length_nil, Nat.zero_le, Nat.reduceAdd, Nat.reduceSub, Nat.reduceLeDiff, Nat.reduceLT, Nat.reduceEqDiff, Int.reduceToNat, reduceIte, xe_aload, jx_rv_r, jx_rv_n, jx_rv_q, xe_inv1, jx_cc_i, jx_cc_v, Nat.reduceMod, Nat.reduceDiv, jx_cl9_i, xk_putf, ak_P, jx_pf_i, jx_pf_z, jx_pf_l, jx_pf_r, jx_pf_n, jx_pf_q, xk_getf, jx_gf_i, jx_ov_s, ak_V, xe_iconst, xi_m1, xe_icmp_eq, xe_dup2, jx_2_i, jx_2_l, jx_2_r, jx_2_n, jx_2_q, or_self, xk_iald, ja_ia, ak_A, ak_I, true_or, or_true, xi_1, xx_1, xe_iadd, xk_iast, ja_is, ak_S, xe_goto_w, xi_0, xx_0, xe_isub, xe_max, xe_istore, xk_iload, jx_iv_i, xe_icmp_ge, xe_inv2, xk_iinc, ak_C, xe_goto, xe_ishl, xe_ior, xe_dup, xe_ireturn, jx_s1, List.set_cons_zero, List.set_cons_succ, jx_2_u, jx_2_s, jx_k_i, jx_k_l, jx_k_r, jx_k_n, jx_k_u, jx_k_s, jx_k_q, cq_r, cq_f, cq_s, cq_wo]
/-- the hour: from what is in hand -/
theorem cq_passes {lo : Option Nat} (hpm : pm ≤ 6) (es : s 3 = nI pm) (hp : pk = -1 ∨ ∃ t, t < 6 ∧ pk = nI t) (hI : ∃ w', jx_cr (d + 1) 178 [.ref b, va_rf lo] (cq_put h b (s, a, w)) = some (.inl (some (.int pk)), cq_put h b (s, a, w'))) :
    ∃ w', jx_cr (d + 2) 180 [.ref b, va_rf lo] (cq_put h b (s, a, w)) = some (.inl (some (.int (cq_who (cq_th a) (s 1) pm))), cq_put h b (cq_pss s pk, cq_psa s a pm pk, w')) := by
  obtain ⟨w', e⟩ := hI
  refine ⟨w', ?_⟩
  have eS : ∀ a, cq_put h b (va_up (va_up (va_up (va_up s 8 pk) 9 (-1)) 10 (if 0 < s 10 - 1 then s 10 - 1 else 0)) 7 (s 7 + 1), a, w') = cq_put h b (cq_pss s pk, a, w') := fun a => cq_sE fun k hk => by
    simp only [va_up, cq_pss]
    by_cases q7 : k = 7
    · rw [if_pos q7, if_pos q7]
    · rw [if_neg q7, if_neg q7]
      by_cases q10 : k = 10
      · subst q10; rfl
      · rw [if_neg q10]
        by_cases q9 : k = 9
        · subst q9; rfl
        · rw [if_neg q9, if_neg q9, if_neg q10]
  have eA : ∀ a1 : Nat → Nat → Int32, (∀ j, ¬ j = 6 → a1 j = a j) → a1 6 = (if pk = -1 then a 6 else upd (a 6) pk.toNatClampNeg (a 6 pk.toNatClampNeg + 1)) → ∀ s', cq_put h b (s', cq_psr (s 1) a1 pm pk pm, w') = cq_put h b (s', cq_psa s a pm pk, w') := by
    intro a1 h1 h2 s'
    have et : cq_th a1 = cq_th a := by
      funext p
      simp only [cq_th, h1 7 (by decide), h1 4 (by decide)]
    refine cq_aE fun j hj => ?_
    simp only [cq_psr, cq_psa, et, h1 7 (by decide), h1 8 (by decide), h1 9 (by decide)]
    by_cases q6 : j = 6
    · subst q6; rw [if_pos rfl]; exact h2
    · rw [if_neg q6]
      by_cases q7 : j = 7
      · rw [if_pos q7, if_pos q7]
        funext p
        simp only [cq_fl]
        by_cases r : p < pm
        · rw [if_pos r, if_pos r]
        · rw [if_neg r, if_neg r, if_neg r]
      · rw [if_neg q7, if_neg q7, h1 j q6]
  have eT : ∀ a1 : Nat → Nat → Int32, (∀ j, ¬ j = 6 → a1 j = a j) → cq_th a1 = cq_th a := by
    intro a1 h1
    funext p
    simp only [cq_th, h1 7 (by decide), h1 4 (by decide)]
  rcases hp with hp | ⟨t, ht, hp⟩
  · have hp' : (pk = -1) = True := eq_true hp
    have l := cq_psE (d := d) (h := h) (b := b) (a := a) (w := w') (lo := lo) (pm := pm) (s := va_up (va_up (va_up s 8 pk) 9 (-1)) 10 (if 0 < s 10 - 1 then s 10 - 1 else 0)) hpm es (show _ = pk from rfl)
    simp only [cr_180 jx_ns_q, eb_180_0, eb_180_30, jx_ns_r, jx_ns_n, jx_ns_q, jx_ns_i, jx_gl_0, jx_gl_s, if_true, if_false, ite_true, ite_false, eq_self, Bool.false_eq_true, List.length_cons, List.length_nil, Nat.zero_le, Nat.reduceAdd, Nat.reduceSub, Nat.reduceLeDiff, Nat.reduceLT, Nat.reduceEqDiff, Int.reduceToNat, reduceIte, xe_aload, jx_rv_r, jx_rv_n, jx_rv_q, xe_inv1, jx_cc_i, jx_cc_v, Nat.reduceMod, Nat.reduceDiv, jx_cl9_i, xk_putf, ak_P, jx_pf_i, jx_pf_z, jx_pf_l, jx_pf_r, jx_pf_n, jx_pf_q, xk_getf, jx_gf_i, jx_ov_s, ak_V, xe_iconst, xi_m1, xe_icmp_eq, xe_dup2, jx_2_i, jx_2_l, jx_2_r, jx_2_n, jx_2_q, or_self, xk_iald, ja_ia, ak_A, ak_I, true_or, or_true, xi_1, xx_1, xe_iadd, xk_iast, ja_is, ak_S, xe_goto_w, xi_0, xx_0, xe_isub, xe_max, xe_istore, xk_iload, jx_iv_i, xe_icmp_ge, xe_inv2, xk_iinc, ak_C, xe_goto, xe_ishl, xe_ior, xe_dup, xe_ireturn, jx_s1, List.set_cons_zero, List.set_cons_succ, jx_2_u, jx_2_s, jx_k_i, jx_k_l, jx_k_r, jx_k_n, jx_k_u, jx_k_s, jx_k_q, cq_r, cq_f, cq_s, cq_wo, e, va_up_s, hp']
    refine l.trans (congrArg (fun z => some (Sum.inl (some (Value.int (cq_who (cq_th a) (s 1) pm))), z)) ?_)
    exact (eS _).trans (eA a (fun j _ => rfl) (by rw [if_pos hp]) _)
  · have hn : ¬ pk = -1 := by
      intro q
      rw [hp] at q
      have := congrArg Int32.toInt q
      rw [nI_toInt (by omega)] at this
      have h2 : (-1 : Int32).toInt = -1 := rfl
      omega
    have iT : jx_ix pk 6 = some t := by rw [hp, jx_ix_n (by omega), if_pos (by omega)]
    have l := cq_psE (d := d) (h := h) (b := b) (a := va_up a 6 (upd (a 6) t (a 6 t + 1))) (w := w') (lo := lo) (pm := pm) (s := va_up (va_up (va_up s 8 pk) 9 (-1)) 10 (if 0 < s 10 - 1 then s 10 - 1 else 0)) hpm es (show _ = pk from rfl)
    have h1 : ∀ j, ¬ j = 6 → va_up a 6 (upd (a 6) t (a 6 t + 1)) j = a j := fun j hj => if_neg hj
    rw [eT _ h1] at l
    simp only [cr_180 jx_ns_q, eb_180_0, eb_180_30, jx_ns_r, jx_ns_n, jx_ns_q, jx_ns_i, jx_gl_0, jx_gl_s, if_true, if_false, ite_true, ite_false, eq_self, Bool.false_eq_true, List.length_cons, List.length_nil, Nat.zero_le, Nat.reduceAdd, Nat.reduceSub, Nat.reduceLeDiff, Nat.reduceLT, Nat.reduceEqDiff, Int.reduceToNat, reduceIte, xe_aload, jx_rv_r, jx_rv_n, jx_rv_q, xe_inv1, jx_cc_i, jx_cc_v, Nat.reduceMod, Nat.reduceDiv, jx_cl9_i, xk_putf, ak_P, jx_pf_i, jx_pf_z, jx_pf_l, jx_pf_r, jx_pf_n, jx_pf_q, xk_getf, jx_gf_i, jx_ov_s, ak_V, xe_iconst, xi_m1, xe_icmp_eq, xe_dup2, jx_2_i, jx_2_l, jx_2_r, jx_2_n, jx_2_q, or_self, xk_iald, ja_ia, ak_A, ak_I, true_or, or_true, xi_1, xx_1, xe_iadd, xk_iast, ja_is, ak_S, xe_goto_w, xi_0, xx_0, xe_isub, xe_max, xe_istore, xk_iload, jx_iv_i, xe_icmp_ge, xe_inv2, xk_iinc, ak_C, xe_goto, xe_ishl, xe_ior, xe_dup, xe_ireturn, jx_s1, List.set_cons_zero, List.set_cons_succ, jx_2_u, jx_2_s, jx_k_i, jx_k_l, jx_k_r, jx_k_n, jx_k_u, jx_k_s, jx_k_q, cq_r, cq_f, cq_s, cq_wo, cq_wr, e, va_up_s, hn, iT]
    refine l.trans (congrArg (fun z => some (Sum.inl (some (Value.int (cq_who (cq_th a) (s 1) pm))), z)) ?_)
    refine (eS _).trans (eA _ h1 ?_ _)
    rw [if_neg hn, hp, nI_clamp (by omega)]
    rfl
end CP
