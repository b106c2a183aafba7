/-! TEXTS: the world of a Text, its leaf methods -/
set_option maxRecDepth 100000
def tx_l (n e g u : Int32) : List Value := [.ref 105, .ref 75, .int n, .int e, .int g, .int u, .ref 48]
/-- a Text at t: next n, deep e, made g, many u -/
def tx (h : jx_H) (t : Nat) (n e g u : Int32) : jx_H := jx_put h t (.inr (4, tx_l n e g u))
theorem tx_f {n e g u : Int32} : (tx_l n e g u)[0]? = some (.ref 105) ∧ (tx_l n e g u)[1]? = some (.ref 75) ∧ (tx_l n e g u)[2]? = some (.int n) ∧ (tx_l n e g u)[3]? = some (.int e) ∧ (tx_l n e g u)[4]? = some (.int g) ∧ (tx_l n e g u)[5]? = some (.int u) ∧ (tx_l n e g u)[6]? = some (.ref 48) := ⟨rfl, rfl, rfl, rfl, rfl, rfl, rfl⟩
theorem tx_s {n e g u v : Int32} : (tx_l n e g u).set 2 (.int v) = tx_l v e g u ∧ (tx_l n e g u).set 3 (.int v) = tx_l n v g u ∧ (tx_l n e g u).set 4 (.int v) = tx_l n e v u ∧ (tx_l n e g u).set 5 (.int v) = tx_l n e g v := ⟨rfl, rfl, rfl, rfl⟩
theorem ss_sw {h : jx_H} {cu : Option Nat} {F : Nat → Int32} {o p q z : cq_C} {T : List Value} {x : Int32 × Int32} {ru im : Nat → Option Nat} {tp : Nat → Int32} {R : Nat → Nat → Int32} (hs : ss_ok h) : ss_ok (sw h cu F o p q z T x ru im tp R) := by
  intro i hi
  rw [sw_out (by omega), sw_out (by omega)]
  exact hs i hi
theorem ss_tx {h : jx_H} {t : Nat} {n e g u : Int32} (ht : 151 ≤ t) (hs : ss_ok h) : ss_ok (tx h t n e g u) := by
  intro i hi
  rw [tx, jx_put_at, if_neg (by omega), jx_put_at, if_neg (by omega)]
  exact hs i hi
section SDC
variable {d : Nat} {h : jx_H} {cu : Option Nat} {F : Nat → Int32} {o p q z : cq_C} {T : List Value} {x : Int32 × Int32} {ru im : Nat → Option Nat} {tp : Nat → Int32} {R : Nat → Nat → Int32} {s : Nat → Int32} {a : Nat → Nat → Int32} {w : Nat → Int64}
variable {t n e g u M i k c : Nat} {n' e' g' u' v l : Int32}
theorem tx_r (ht : 151 ≤ t) : (sw (tx h t n' e' g' u') cu F o p q z T x ru im tp R).1 t = .inr (4, tx_l n' e' g' u') := by
  rw [sw_out (by omega), tx, jx_put_at, if_pos rfl]
theorem tx_w (ht : 151 ≤ t) {n2 e2 g2 u2 : Int32} : jx_put (sw (tx h t n' e' g' u') cu F o p q z T x ru im tp R) t (.inr (4, tx_l n2 e2 g2 u2)) = sw (tx h t n2 e2 g2 u2) cu F o p q z T x ru im tp R := by
  rw [sw_put (by omega), tx, jx_pp]
  rfl
theorem T_see (ht : 151 ≤ t) (eM : F 9 = nI M) (hM : M ≤ 400) (hn : n ≤ M) : jx_cr (d + 1) 195 [.ref t] (sw (tx h t (nI n) e' g' u') cu F o p q z T x ru im tp R) = some (.inl (some (.int (sg tp M (skp tp M n)))), sw (tx h t (nI (skp tp M n)) e' g' u') cu F o p q z T x ru im tp R) := by
  have t3 : 3 ≤ t := by omega
  have l := jx_lp (d := d) (y := 195) (L := 0) (n := M) (γ := Unit) (ls := fun _ _ => [.ref t]) (H := fun m _ => sw (tx h t (nI m) e' g' u') cu F o p q z T x ru im tp R)
    (I := fun m _ => skp tp M m = skp tp M n)
    (G := fun r => r = jx_eb d 195 44 [.ref t] [] (sw (tx h t (nI (skp tp M n)) e' g' u') cu F o p q z T x ru im tp R)) ?_ ?_ (M - n) n () (by omega) rfl
  · simp only [cr_195]
    rw [l]
    have le := skp_le (tp := tp) hn
    generalize skp tp M n = m at le ⊢
    by_cases r : m < M
    · have h3 : ¬ nI M ≤ nI m := nI_ge r (by omega)
      have i1 := sp_ix (show m < 400 by omega) (by decide)
      simp only [eb_195_44, eb_195_78, jx_ns_r, jx_ns_n, jx_ns_q, jx_ns_i, jx_gl_0, jx_gl_s, if_true, if_false, ite_true, ite_false, eq_self, Bool.false_eq_true, List.length_cons, List.length_nil, Nat.zero_le, Nat.reduceAdd, Nat.reduceSub, Nat.reduceLeDiff, Nat.reduceLT, Nat.reduceEqDiff, Int.reduceToNat, reduceIte, xe_aload, jx_rv_r, jx_rv_n, jx_rv_q, xk_getf, jx_gf_i, jx_ov_s, ak_V, xe_icmp_ge, xk_bald, ja_ba, ak_A, ak_I, true_or, or_true, xe_iconst, xi_32, xe_icmp_ne, xe_dup, jx_2_i, jx_2_l, jx_2_r, jx_2_n, jx_2_q, or_self, xi_1, xx_1, xe_iadd, xk_putf, ak_P, jx_pf_i, jx_pf_z, jx_pf_l, jx_pf_r, jx_pf_n, jx_pf_q, Nat.reduceMod, Nat.reduceDiv, xe_goto, xi_255, xe_iand, xi_m1, xe_goto_w, xe_ireturn, tx_r ht, sw_r, sw_f, tx_f, tx_s, eM, h3, i1, sg, if_pos r]
    · have h3 : nI M ≤ nI m := (nI_leI (by omega) (by omega)).mpr (by omega)
      simp only [eb_195_44, eb_195_77, eb_195_78, jx_ns_r, jx_ns_n, jx_ns_q, jx_ns_i, jx_gl_0, jx_gl_s, if_true, if_false, ite_true, ite_false, eq_self, Bool.false_eq_true, List.length_cons, List.length_nil, Nat.zero_le, Nat.reduceAdd, Nat.reduceSub, Nat.reduceLeDiff, Nat.reduceLT, Nat.reduceEqDiff, Int.reduceToNat, reduceIte, xe_aload, jx_rv_r, jx_rv_n, jx_rv_q, xk_getf, jx_gf_i, jx_ov_s, ak_V, xe_icmp_ge, xk_bald, ja_ba, ak_A, ak_I, true_or, or_true, xe_iconst, xi_32, xe_icmp_ne, xe_dup, jx_2_i, jx_2_l, jx_2_r, jx_2_n, jx_2_q, or_self, xi_1, xx_1, xe_iadd, xk_putf, ak_P, jx_pf_i, jx_pf_z, jx_pf_l, jx_pf_r, jx_pf_n, jx_pf_q, Nat.reduceMod, Nat.reduceDiv, xe_goto, xi_255, xe_iand, xi_m1, xe_goto_w, xe_ireturn, tx_r ht, sw_r, sw_f, tx_f, tx_s, eM, h3, sg, if_neg r]
  · intro m _ hm hI
    have h3 : ¬ nI M ≤ nI m := nI_ge hm (by omega)
    have i1 := sp_ix (show m < 400 by omega) (by decide)
    rw [skp_s hm] at hI
    by_cases r : tp m = 32
    · rw [if_pos r] at hI
      refine .inr ⟨(), hI, ?_⟩
      rw [eb_195_0]
      simp only [jx_ns_r, jx_ns_n, jx_ns_q, jx_ns_i, jx_gl_0, jx_gl_s, if_true, if_false, ite_true, ite_false, eq_self, Bool.false_eq_true, List.length_cons, List.length_nil, Nat.zero_le, Nat.reduceAdd, Nat.reduceSub, Nat.reduceLeDiff, Nat.reduceLT, Nat.reduceEqDiff, Int.reduceToNat, reduceIte, xe_aload, jx_rv_r, jx_rv_n, jx_rv_q, xk_getf, jx_gf_i, jx_ov_s, ak_V, xe_icmp_ge, xk_bald, ja_ba, ak_A, ak_I, true_or, or_true, xe_iconst, xi_32, xe_icmp_ne, xe_dup, jx_2_i, jx_2_l, jx_2_r, jx_2_n, jx_2_q, or_self, xi_1, xx_1, xe_iadd, xk_putf, ak_P, jx_pf_i, jx_pf_z, jx_pf_l, jx_pf_r, jx_pf_n, jx_pf_q, Nat.reduceMod, Nat.reduceDiv, xe_goto, xi_255, xe_iand, xi_m1, xe_goto_w, xe_ireturn, tx_r ht, tx_w ht, sw_r, sw_f, tx_f, tx_s, eM, h3, i1, r, nI_1]
    · rw [if_neg r] at hI
      refine .inl ?_
      rw [eb_195_0, ← hI]
      simp only [jx_ns_r, jx_ns_n, jx_ns_q, jx_ns_i, jx_gl_0, jx_gl_s, if_true, if_false, ite_true, ite_false, eq_self, Bool.false_eq_true, List.length_cons, List.length_nil, Nat.zero_le, Nat.reduceAdd, Nat.reduceSub, Nat.reduceLeDiff, Nat.reduceLT, Nat.reduceEqDiff, Int.reduceToNat, reduceIte, xe_aload, jx_rv_r, jx_rv_n, jx_rv_q, xk_getf, jx_gf_i, jx_ov_s, ak_V, xe_icmp_ge, xk_bald, ja_ba, ak_A, ak_I, true_or, or_true, xe_iconst, xi_32, xe_icmp_ne, xe_dup, jx_2_i, jx_2_l, jx_2_r, jx_2_n, jx_2_q, or_self, xi_1, xx_1, xe_iadd, xk_putf, ak_P, jx_pf_i, jx_pf_z, jx_pf_l, jx_pf_r, jx_pf_n, jx_pf_q, Nat.reduceMod, Nat.reduceDiv, xe_goto, xi_255, xe_iand, xi_m1, xe_goto_w, xe_ireturn, tx_r ht, sw_r, sw_f, tx_f, tx_s, eM, h3, i1, r]
  · intro _ hI
    have h3 : nI M ≤ nI M := (nI_leI (by omega) (by omega)).mpr (Nat.le_refl _)
    rw [skp_e (Nat.le_refl _)] at hI
    rw [eb_195_0, ← hI]
    simp only [jx_ns_r, jx_ns_n, jx_ns_q, jx_ns_i, jx_gl_0, jx_gl_s, if_true, if_false, ite_true, ite_false, eq_self, Bool.false_eq_true, List.length_cons, List.length_nil, Nat.zero_le, Nat.reduceAdd, Nat.reduceSub, Nat.reduceLeDiff, Nat.reduceLT, Nat.reduceEqDiff, Int.reduceToNat, reduceIte, xe_aload, jx_rv_r, jx_rv_n, jx_rv_q, xk_getf, jx_gf_i, jx_ov_s, ak_V, xe_icmp_ge, xk_bald, ja_ba, ak_A, ak_I, true_or, or_true, xe_iconst, xi_32, xe_icmp_ne, xe_dup, jx_2_i, jx_2_l, jx_2_r, jx_2_n, jx_2_q, or_self, xi_1, xx_1, xe_iadd, xk_putf, ak_P, jx_pf_i, jx_pf_z, jx_pf_l, jx_pf_r, jx_pf_n, jx_pf_q, Nat.reduceMod, Nat.reduceDiv, xe_goto, xi_255, xe_iand, xi_m1, xe_goto_w, xe_ireturn, tx_r ht, sw_r, sw_f, tx_f, tx_s, eM, h3]
theorem T_takesSign (ht : 151 ≤ t) (eM : F 9 = nI M) (hM : M ≤ 400) (hn : n ≤ M) : jx_cr (d + 2) 196 [.ref t, .int v] (sw (tx h t (nI n) e' g' u') cu F o p q z T x ru im tp R) = some (.inl (some (.int (if sg tp M (skp tp M n) = v then 1 else 0))), sw (tx h t (nI (if sg tp M (skp tp M n) = v then skp tp M n + 1 else skp tp M n)) e' g' u') cu F o p q z T x ru im tp R) := by
  have t3 : 3 ≤ t := by omega
  have s1 := fun d => T_see (d := d) (h := h) (cu := cu) (F := F) (o := o) (p := p) (q := q) (z := z) (T := T) (x := x) (ru := ru) (im := im) (tp := tp) (R := R) (e' := e') (g' := g') (u' := u') ht eM hM hn
  by_cases r : sg tp M (skp tp M n) = v <;> simp only [cr_196, eb_196_0, eb_196_10, jx_ns_r, jx_ns_n, jx_ns_q, jx_ns_i, jx_gl_0, jx_gl_s, if_true, if_false, ite_true, ite_false, eq_self, Bool.false_eq_true, List.length_cons, List.length_nil, Nat.zero_le, Nat.reduceAdd, Nat.reduceSub, Nat.reduceLeDiff, Nat.reduceLT, Nat.reduceEqDiff, Int.reduceToNat, reduceIte, xe_aload, jx_rv_r, jx_rv_n, jx_rv_q, xe_inv0, jx_cc_i, jx_cc_v, Nat.reduceMod, Nat.reduceDiv, jx_cl9_i, xk_iload, jx_iv_i, ak_I, xe_icmp_eq, xe_iconst, xi_0, xx_0, xe_zreturn, xZ, xe_dup, jx_2_i, jx_2_l, jx_2_r, jx_2_n, jx_2_q, or_self, xk_getf, jx_gf_i, jx_ov_s, ak_V, xi_1, xx_1, xe_iadd, xk_putf, ak_P, jx_pf_i, jx_pf_z, jx_pf_l, jx_pf_r, jx_pf_n, jx_pf_q, tx_r ht, tx_w ht, sw_r, sw_f, tx_f, tx_s, s1, r, nI_1]
theorem T_letters (ht : 151 ≤ t) (eM : F 9 = nI M) (hM : M ≤ 400) (hn : n ≤ M) : jx_cr (d + 2) 197 [.ref t] (sw (tx h t (nI n) e' g' u') cu F o p q z T x ru im tp R) = some (.inl (some (.int (nI (ltp tp M (skp tp M n))))), sw (tx h t (nI (skp tp M n)) e' g' u') cu F o p q z T x ru im tp R) := by
  have t3 : 3 ≤ t := by omega
  have s1 := fun d => T_see (d := d) (h := h) (cu := cu) (F := F) (o := o) (p := p) (q := q) (z := z) (T := T) (x := x) (ru := ru) (im := im) (tp := tp) (R := R) (e' := e') (g' := g') (u' := u') ht eM hM hn
  have le := skp_le (tp := tp) hn
  generalize skp tp M n = m at le s1 ⊢
  have l := jx_lp (d := d + 1) (y := 197) (L := 7) (n := M - m) (γ := Unit) (ls := fun k _ => [.ref t, .int (nI k)]) (H := fun _ _ => sw (tx h t (nI m) e' g' u') cu F o p q z T x ru im tp R)
    (I := fun k _ => k ≤ ltp tp M m)
    (G := fun r => r = some (.inl (some (.int (nI (ltp tp M m)))), sw (tx h t (nI m) e' g' u') cu F o p q z T x ru im tp R)) ?_ ?_ (M - m) 0 () (by omega) (by omega)
  · rw [nI_0] at l
    simp only [cr_197, eb_197_0, jx_ns_r, jx_ns_n, jx_ns_q, jx_ns_i, jx_gl_0, jx_gl_s, if_true, if_false, ite_true, ite_false, eq_self, Bool.false_eq_true, List.length_cons, List.length_nil, Nat.zero_le, Nat.reduceAdd, Nat.reduceSub, Nat.reduceLeDiff, Nat.reduceLT, Nat.reduceEqDiff, Int.reduceToNat, reduceIte, xe_aload, jx_rv_r, jx_rv_n, jx_rv_q, xe_inv0, jx_cc_i, jx_cc_v, Nat.reduceMod, Nat.reduceDiv, jx_cl9_i, xe_pop, jx_2_i, jx_2_l, jx_2_r, jx_2_n, jx_2_q, or_self, xe_iconst, xi_0, xx_0, xe_istore, xe_goto_w, xk_getf, jx_gf_i, jx_ov_s, ak_V, xk_iload, jx_iv_i, ak_I, xe_iadd, xe_icmp_ge, xk_bald, ja_ba, ak_A, true_or, or_true, xi_97, xe_icmp_lt, xi_122, xe_icmp_gt, xk_iinc, ak_C, xi_1, xe_goto, xe_ireturn, jx_s1, List.set_cons_zero, List.set_cons_succ, jx_2_u, jx_2_s, jx_k_i, jx_k_l, jx_k_r, jx_k_n, jx_k_u, jx_k_s, jx_k_q, tx_r ht, s1]
    exact l
  · intro k _ hk hI
    have ek := ltp_k k hI
    have h3 : ¬ nI M ≤ nI (m + k) := nI_ge (by omega) (by omega)
    have i1 := sp_ix (show m + k < 400 by omega) (by decide)
    rw [ltp_s (show m + k < M by omega)] at ek
    by_cases r : 97 ≤ tp (m + k) ∧ tp (m + k) ≤ 122
    · rw [if_pos r] at ek
      have r1 : ¬ tp (m + k) < 97 := Int32.not_lt.mpr r.1
      have r2 : ¬ 122 < tp (m + k) := Int32.not_lt.mpr r.2
      refine .inr ⟨(), by omega, ?_⟩
      rw [eb_197_7]
      simp only [jx_ns_r, jx_ns_n, jx_ns_q, jx_ns_i, jx_gl_0, jx_gl_s, if_true, if_false, ite_true, ite_false, eq_self, Bool.false_eq_true, List.length_cons, List.length_nil, Nat.zero_le, Nat.reduceAdd, Nat.reduceSub, Nat.reduceLeDiff, Nat.reduceLT, Nat.reduceEqDiff, Int.reduceToNat, reduceIte, xe_aload, jx_rv_r, jx_rv_n, jx_rv_q, xe_inv0, jx_cc_i, jx_cc_v, Nat.reduceMod, Nat.reduceDiv, jx_cl9_i, xe_pop, jx_2_i, jx_2_l, jx_2_r, jx_2_n, jx_2_q, or_self, xe_iconst, xi_0, xx_0, xe_istore, xe_goto_w, xk_getf, jx_gf_i, jx_ov_s, ak_V, xk_iload, jx_iv_i, ak_I, xe_iadd, xe_icmp_ge, xk_bald, ja_ba, ak_A, true_or, or_true, xi_97, xe_icmp_lt, xi_122, xe_icmp_gt, xk_iinc, ak_C, xi_1, xe_goto, xe_ireturn, jx_s1, List.set_cons_zero, List.set_cons_succ, jx_2_u, jx_2_s, jx_k_i, jx_k_l, jx_k_r, jx_k_n, jx_k_u, jx_k_s, jx_k_q, tx_r ht, sw_r, sw_f, tx_f, tx_s, eM, nI_add, h3, i1, r1, r2, nI_1]
    · rw [if_neg r] at ek
      refine .inl ?_
      rw [Nat.add_zero] at ek
      rw [ek, eb_197_7]
      by_cases r1 : tp (m + k) < 97
      · simp only [eb_197_67, jx_ns_r, jx_ns_n, jx_ns_q, jx_ns_i, jx_gl_0, jx_gl_s, if_true, if_false, ite_true, ite_false, eq_self, Bool.false_eq_true, List.length_cons, List.length_nil, Nat.zero_le, Nat.reduceAdd, Nat.reduceSub, Nat.reduceLeDiff, Nat.reduceLT, Nat.reduceEqDiff, Int.reduceToNat, reduceIte, xe_aload, jx_rv_r, jx_rv_n, jx_rv_q, xe_inv0, jx_cc_i, jx_cc_v, Nat.reduceMod, Nat.reduceDiv, jx_cl9_i, xe_pop, jx_2_i, jx_2_l, jx_2_r, jx_2_n, jx_2_q, or_self, xe_iconst, xi_0, xx_0, xe_istore, xe_goto_w, xk_getf, jx_gf_i, jx_ov_s, ak_V, xk_iload, jx_iv_i, ak_I, xe_iadd, xe_icmp_ge, xk_bald, ja_ba, ak_A, true_or, or_true, xi_97, xe_icmp_lt, xi_122, xe_icmp_gt, xk_iinc, ak_C, xi_1, xe_goto, xe_ireturn, jx_s1, List.set_cons_zero, List.set_cons_succ, jx_2_u, jx_2_s, jx_k_i, jx_k_l, jx_k_r, jx_k_n, jx_k_u, jx_k_s, jx_k_q, tx_r ht, sw_r, sw_f, tx_f, tx_s, eM, nI_add, h3, i1, r1]
      · have r2 : 122 < tp (m + k) := Int32.not_le.mp (fun q => r ⟨Int32.not_lt.mp r1, q⟩)
        simp only [eb_197_67, jx_ns_r, jx_ns_n, jx_ns_q, jx_ns_i, jx_gl_0, jx_gl_s, if_true, if_false, ite_true, ite_false, eq_self, Bool.false_eq_true, List.length_cons, List.length_nil, Nat.zero_le, Nat.reduceAdd, Nat.reduceSub, Nat.reduceLeDiff, Nat.reduceLT, Nat.reduceEqDiff, Int.reduceToNat, reduceIte, xe_aload, jx_rv_r, jx_rv_n, jx_rv_q, xe_inv0, jx_cc_i, jx_cc_v, Nat.reduceMod, Nat.reduceDiv, jx_cl9_i, xe_pop, jx_2_i, jx_2_l, jx_2_r, jx_2_n, jx_2_q, or_self, xe_iconst, xi_0, xx_0, xe_istore, xe_goto_w, xk_getf, jx_gf_i, jx_ov_s, ak_V, xk_iload, jx_iv_i, ak_I, xe_iadd, xe_icmp_ge, xk_bald, ja_ba, ak_A, true_or, or_true, xi_97, xe_icmp_lt, xi_122, xe_icmp_gt, xk_iinc, ak_C, xi_1, xe_goto, xe_ireturn, jx_s1, List.set_cons_zero, List.set_cons_succ, jx_2_u, jx_2_s, jx_k_i, jx_k_l, jx_k_r, jx_k_n, jx_k_u, jx_k_s, jx_k_q, tx_r ht, sw_r, sw_f, tx_f, tx_s, eM, nI_add, h3, i1, r1, r2]
  · intro _ hI
    have ll := ltp_le (tp := tp) le
    have h3 : nI M ≤ nI (m + (M - m)) := (nI_leI (by omega) (by omega)).mpr (by omega)
    rw [show ltp tp M m = M - m by omega, eb_197_7]
    simp only [eb_197_67, jx_ns_r, jx_ns_n, jx_ns_q, jx_ns_i, jx_gl_0, jx_gl_s, if_true, if_false, ite_true, ite_false, eq_self, Bool.false_eq_true, List.length_cons, List.length_nil, Nat.zero_le, Nat.reduceAdd, Nat.reduceSub, Nat.reduceLeDiff, Nat.reduceLT, Nat.reduceEqDiff, Int.reduceToNat, reduceIte, xe_aload, jx_rv_r, jx_rv_n, jx_rv_q, xe_inv0, jx_cc_i, jx_cc_v, Nat.reduceMod, Nat.reduceDiv, jx_cl9_i, xe_pop, jx_2_i, jx_2_l, jx_2_r, jx_2_n, jx_2_q, or_self, xe_iconst, xi_0, xx_0, xe_istore, xe_goto_w, xk_getf, jx_gf_i, jx_ov_s, ak_V, xk_iload, jx_iv_i, ak_I, xe_iadd, xe_icmp_ge, xk_bald, ja_ba, ak_A, true_or, or_true, xi_97, xe_icmp_lt, xi_122, xe_icmp_gt, xk_iinc, ak_C, xi_1, xe_goto, xe_ireturn, jx_s1, List.set_cons_zero, List.set_cons_succ, jx_2_u, jx_2_s, jx_k_i, jx_k_l, jx_k_r, jx_k_n, jx_k_u, jx_k_s, jx_k_q, tx_r ht, sw_r, sw_f, tx_f, tx_s, eM, nI_add, h3]
theorem T_isWord (hs : ss_ok h) (hi : i < 22) (ht : 151 ≤ t) (eM : F 9 = nI M) (hM : M ≤ 400) (hn : n ≤ M) : jx_cr (d + 5) 198 [.ref t, .ref (4 + i)] (sw (tx h t (nI n) e' g' u') cu F o p q z T x ru im tp R) = some (.inl (some (.int (sp_bl (wm tp M (skp tp M n) i)))), sw (tx h t (nI (skp tp M n)) e' g' u') cu F o p q z T x ru im tp R) := by
  have t3 : 3 ≤ t := by omega
  have s1 := fun d => T_letters (d := d) (h := h) (cu := cu) (F := F) (o := o) (p := p) (q := q) (z := z) (T := T) (x := x) (ru := ru) (im := im) (tp := tp) (R := R) (e' := e') (g' := g') (u' := u') ht eM hM hn
  have le := skp_le (tp := tp) hn
  generalize skp tp M n = m at le s1 ⊢
  have hH : ss_ok (sw (tx h t (nI m) e' g' u') cu F o p q z T x ru im tp R) := ss_sw (ss_tx ht hs)
  have sl := fun d => String_length (d := d) hH hi
  have ll := ltp_le (tp := tp) le
  obtain ⟨⟨fs, h19⟩, _⟩ := hH i hi
  by_cases r0 : ltp tp M m = st_n i
  · have l := jx_lp (d := d + 4) (y := 198) (L := 22) (n := st_n i) (γ := Unit) (ls := fun k _ => [.ref t, .ref (4 + i), .int (nI (st_n i)), .int 1, .int (nI k)]) (H := fun _ _ => sw (tx h t (nI m) e' g' u') cu F o p q z T x ru im tp R)
      (I := fun k _ => ∀ j, j < k → tp (m + j) = st_c i j)
      (G := fun r => r = some (.inl (some (.int (sp_bl (wm tp M m i)))), sw (tx h t (nI m) e' g' u') cu F o p q z T x ru im tp R)) ?_ ?_ (st_n i) 0 () (by omega) (fun j hj => absurd hj (by omega))
    · rw [nI_0] at l
      simp only [cr_198 jx_ns_r, eb_198_0, eb_198_18, jx_ns_r, jx_ns_n, jx_ns_q, jx_ns_i, jx_gl_0, jx_gl_s, if_true, if_false, ite_true, ite_false, eq_self, Bool.false_eq_true, List.length_cons, List.length_nil, Nat.zero_le, Nat.reduceAdd, Nat.reduceSub, Nat.reduceLeDiff, Nat.reduceLT, Nat.reduceEqDiff, Int.reduceToNat, reduceIte, xe_aload, jx_rv_r, jx_rv_n, jx_rv_q, xe_inv0, jx_cc_i, jx_cc_v, Nat.reduceMod, Nat.reduceDiv, jx_cl9_i, xe_istore, xk_iload, jx_iv_i, ak_I, xe_icmp_ne, xe_iconst, xi_1, xx_1, xe_goto, xi_0, xx_0, xe_goto_w, xe_ifeq, xe_icmp_ge, xe_inv1, xk_getf, jx_gf_i, jx_ov_s, ak_V, xe_iadd, xk_bald, ja_ba, ak_A, true_or, or_true, xk_iinc, ak_C, xe_zreturn, xZ, jx_s1, List.set_cons_zero, List.set_cons_succ, jx_2_i, jx_2_l, jx_2_r, jx_2_n, jx_2_u, jx_2_s, jx_2_q, jx_k_i, jx_k_l, jx_k_r, jx_k_n, jx_k_u, jx_k_s, jx_k_q, tx_r ht, s1, r0, h19, sl]
      exact l
    · intro k _ hk hI
      have sc := fun d => String_charAt (d := d) hH hi hk
      have h3 : ¬ nI (st_n i) ≤ nI k := nI_ge hk (by have := st_nb hi; omega)
      have i1 := sp_ix (show m + k < 400 by omega) (by decide)
      have c1 : tp (m + k) = st_c i k ↔ st_c i k = tp (m + k) := ⟨Eq.symm, Eq.symm⟩
      by_cases r : st_c i k = tp (m + k)
      · refine .inr ⟨(), fun j hj => ?_, ?_⟩
        · rcases (show j < k ∨ j = k by omega) with q | q
          · exact hI j q
          · subst q; exact r.symm
        · rw [eb_198_22]
          simp only [eb_198_61, jx_ns_r, jx_ns_n, jx_ns_q, jx_ns_i, jx_gl_0, jx_gl_s, if_true, if_false, ite_true, ite_false, eq_self, Bool.false_eq_true, List.length_cons, List.length_nil, Nat.zero_le, Nat.reduceAdd, Nat.reduceSub, Nat.reduceLeDiff, Nat.reduceLT, Nat.reduceEqDiff, Int.reduceToNat, reduceIte, xe_aload, jx_rv_r, jx_rv_n, jx_rv_q, xe_inv0, jx_cc_i, jx_cc_v, Nat.reduceMod, Nat.reduceDiv, jx_cl9_i, xe_istore, xk_iload, jx_iv_i, ak_I, xe_icmp_ne, xe_iconst, xi_1, xx_1, xe_goto, xi_0, xx_0, xe_goto_w, xe_ifeq, xe_icmp_ge, xe_inv1, xk_getf, jx_gf_i, jx_ov_s, ak_V, xe_iadd, xk_bald, ja_ba, ak_A, true_or, or_true, xk_iinc, ak_C, xe_zreturn, xZ, jx_s1, List.set_cons_zero, List.set_cons_succ, jx_2_i, jx_2_l, jx_2_r, jx_2_n, jx_2_u, jx_2_s, jx_2_q, jx_k_i, jx_k_l, jx_k_r, jx_k_n, jx_k_u, jx_k_s, jx_k_q, tx_r ht, sw_r, sw_f, tx_f, tx_s, h19, sc, sp_10, h3, nI_add, i1, r, nI_1]
      · refine .inl ?_
        rw [sp_bl_f (fun q => r (q.2 k hk).symm), eb_198_22]
        simp only [eb_198_60, eb_198_61, jx_ns_r, jx_ns_n, jx_ns_q, jx_ns_i, jx_gl_0, jx_gl_s, if_true, if_false, ite_true, ite_false, eq_self, Bool.false_eq_true, List.length_cons, List.length_nil, Nat.zero_le, Nat.reduceAdd, Nat.reduceSub, Nat.reduceLeDiff, Nat.reduceLT, Nat.reduceEqDiff, Int.reduceToNat, reduceIte, xe_aload, jx_rv_r, jx_rv_n, jx_rv_q, xe_inv0, jx_cc_i, jx_cc_v, Nat.reduceMod, Nat.reduceDiv, jx_cl9_i, xe_istore, xk_iload, jx_iv_i, ak_I, xe_icmp_ne, xe_iconst, xi_1, xx_1, xe_goto, xi_0, xx_0, xe_goto_w, xe_ifeq, xe_icmp_ge, xe_inv1, xk_getf, jx_gf_i, jx_ov_s, ak_V, xe_iadd, xk_bald, ja_ba, ak_A, true_or, or_true, xk_iinc, ak_C, xe_zreturn, xZ, jx_s1, List.set_cons_zero, List.set_cons_succ, jx_2_i, jx_2_l, jx_2_r, jx_2_n, jx_2_u, jx_2_s, jx_2_q, jx_k_i, jx_k_l, jx_k_r, jx_k_n, jx_k_u, jx_k_s, jx_k_q, tx_r ht, sw_r, sw_f, tx_f, tx_s, h19, sc, sp_10, h3, nI_add, i1, r]
        rw [eb_198_22]
        simp only [eb_198_68, jx_ns_r, jx_ns_n, jx_ns_q, jx_ns_i, jx_gl_0, jx_gl_s, if_true, if_false, ite_true, ite_false, eq_self, Bool.false_eq_true, List.length_cons, List.length_nil, Nat.zero_le, Nat.reduceAdd, Nat.reduceSub, Nat.reduceLeDiff, Nat.reduceLT, Nat.reduceEqDiff, Int.reduceToNat, reduceIte, xe_aload, jx_rv_r, jx_rv_n, jx_rv_q, xe_inv0, jx_cc_i, jx_cc_v, Nat.reduceMod, Nat.reduceDiv, jx_cl9_i, xe_istore, xk_iload, jx_iv_i, ak_I, xe_icmp_ne, xe_iconst, xi_1, xx_1, xe_goto, xi_0, xx_0, xe_goto_w, xe_ifeq, xe_icmp_ge, xe_inv1, xk_getf, jx_gf_i, jx_ov_s, ak_V, xe_iadd, xk_bald, ja_ba, ak_A, true_or, or_true, xk_iinc, ak_C, xe_zreturn, xZ, jx_s1, List.set_cons_zero, List.set_cons_succ, jx_2_i, jx_2_l, jx_2_r, jx_2_n, jx_2_u, jx_2_s, jx_2_q, jx_k_i, jx_k_l, jx_k_r, jx_k_n, jx_k_u, jx_k_s, jx_k_q, xZ]
    · intro _ hI
      have h3 : nI (st_n i) ≤ nI (st_n i) := (nI_leI (by have := st_nb hi; omega) (by have := st_nb hi; omega)).mpr (Nat.le_refl _)
      rw [sp_bl_t (show wm tp M m i from ⟨r0, hI⟩), eb_198_22]
      simp only [eb_198_68, jx_ns_r, jx_ns_n, jx_ns_q, jx_ns_i, jx_gl_0, jx_gl_s, if_true, if_false, ite_true, ite_false, eq_self, Bool.false_eq_true, List.length_cons, List.length_nil, Nat.zero_le, Nat.reduceAdd, Nat.reduceSub, Nat.reduceLeDiff, Nat.reduceLT, Nat.reduceEqDiff, Int.reduceToNat, reduceIte, xe_aload, jx_rv_r, jx_rv_n, jx_rv_q, xe_inv0, jx_cc_i, jx_cc_v, Nat.reduceMod, Nat.reduceDiv, jx_cl9_i, xe_istore, xk_iload, jx_iv_i, ak_I, xe_icmp_ne, xe_iconst, xi_1, xx_1, xe_goto, xi_0, xx_0, xe_goto_w, xe_ifeq, xe_icmp_ge, xe_inv1, xk_getf, jx_gf_i, jx_ov_s, ak_V, xe_iadd, xk_bald, ja_ba, ak_A, true_or, or_true, xk_iinc, ak_C, xe_zreturn, xZ, jx_s1, List.set_cons_zero, List.set_cons_succ, jx_2_i, jx_2_l, jx_2_r, jx_2_n, jx_2_u, jx_2_s, jx_2_q, jx_k_i, jx_k_l, jx_k_r, jx_k_n, jx_k_u, jx_k_s, jx_k_q, sp_10, h3, xZ]
  · have n0 : ¬ nI (ltp tp M m) = nI (st_n i) := fun q => r0 ((nI_eq (by omega) (by have := st_nb hi; omega)).mp q)
    rw [sp_bl_f (fun q => r0 q.1)]
    simp only [cr_198 jx_ns_r, eb_198_0, eb_198_17, eb_198_18, jx_ns_r, jx_ns_n, jx_ns_q, jx_ns_i, jx_gl_0, jx_gl_s, if_true, if_false, ite_true, ite_false, eq_self, Bool.false_eq_true, List.length_cons, List.length_nil, Nat.zero_le, Nat.reduceAdd, Nat.reduceSub, Nat.reduceLeDiff, Nat.reduceLT, Nat.reduceEqDiff, Int.reduceToNat, reduceIte, xe_aload, jx_rv_r, jx_rv_n, jx_rv_q, xe_inv0, jx_cc_i, jx_cc_v, Nat.reduceMod, Nat.reduceDiv, jx_cl9_i, xe_istore, xk_iload, jx_iv_i, ak_I, xe_icmp_ne, xe_iconst, xi_1, xx_1, xe_goto, xi_0, xx_0, xe_goto_w, xe_ifeq, xe_icmp_ge, xe_inv1, xk_getf, jx_gf_i, jx_ov_s, ak_V, xe_iadd, xk_bald, ja_ba, ak_A, true_or, or_true, xk_iinc, ak_C, xe_zreturn, xZ, jx_s1, List.set_cons_zero, List.set_cons_succ, jx_2_i, jx_2_l, jx_2_r, jx_2_n, jx_2_u, jx_2_s, jx_2_q, jx_k_i, jx_k_l, jx_k_r, jx_k_n, jx_k_u, jx_k_s, jx_k_q, tx_r ht, s1, h19, sl, n0]
    rw [eb_198_22]
    simp only [eb_198_68, jx_ns_r, jx_ns_n, jx_ns_q, jx_ns_i, jx_gl_0, jx_gl_s, if_true, if_false, ite_true, ite_false, eq_self, Bool.false_eq_true, List.length_cons, List.length_nil, Nat.zero_le, Nat.reduceAdd, Nat.reduceSub, Nat.reduceLeDiff, Nat.reduceLT, Nat.reduceEqDiff, Int.reduceToNat, reduceIte, xe_aload, jx_rv_r, jx_rv_n, jx_rv_q, xe_inv0, jx_cc_i, jx_cc_v, Nat.reduceMod, Nat.reduceDiv, jx_cl9_i, xe_istore, xk_iload, jx_iv_i, ak_I, xe_icmp_ne, xe_iconst, xi_1, xx_1, xe_goto, xi_0, xx_0, xe_goto_w, xe_ifeq, xe_icmp_ge, xe_inv1, xk_getf, jx_gf_i, jx_ov_s, ak_V, xe_iadd, xk_bald, ja_ba, ak_A, true_or, or_true, xk_iinc, ak_C, xe_zreturn, xZ, jx_s1, List.set_cons_zero, List.set_cons_succ, jx_2_i, jx_2_l, jx_2_r, jx_2_n, jx_2_u, jx_2_s, jx_2_q, jx_k_i, jx_k_l, jx_k_r, jx_k_n, jx_k_u, jx_k_s, jx_k_q, xZ]
theorem T_takesWord (hs : ss_ok h) (hi : i < 22) (ht : 151 ≤ t) (eM : F 9 = nI M) (hM : M ≤ 400) (hn : n ≤ M) : jx_cr (d + 6) 199 [.ref t, .ref (4 + i)] (sw (tx h t (nI n) e' g' u') cu F o p q z T x ru im tp R) = some (.inl (some (.int (sp_bl (wm tp M (skp tp M n) i)))), sw (tx h t (nI (@ite Nat (wm tp M (skp tp M n) i) (Classical.propDecidable _) (skp tp M n + st_n i) (skp tp M n))) e' g' u') cu F o p q z T x ru im tp R) := by
  have t3 : 3 ≤ t := by omega
  have s1 := fun d => T_isWord (d := d) (h := h) (cu := cu) (F := F) (o := o) (p := p) (q := q) (z := z) (T := T) (x := x) (ru := ru) (im := im) (tp := tp) (R := R) (e' := e') (g' := g') (u' := u') hs hi ht eM hM hn
  generalize skp tp M n = m at s1 ⊢
  have hH : ss_ok (sw (tx h t (nI m) e' g' u') cu F o p q z T x ru im tp R) := ss_sw (ss_tx ht hs)
  have sl := fun d => String_length (d := d) hH hi
  obtain ⟨⟨fs, h19⟩, _⟩ := hH i hi
  by_cases r : wm tp M m i
  · rw [sp_bl_t r] at s1 ⊢
    rw [if_pos r]
    simp only [cr_199 jx_ns_r, eb_199_0, eb_199_10, jx_ns_r, jx_ns_n, jx_ns_q, jx_ns_i, jx_gl_0, jx_gl_s, if_true, if_false, ite_true, ite_false, eq_self, Bool.false_eq_true, List.length_cons, List.length_nil, Nat.zero_le, Nat.reduceAdd, Nat.reduceSub, Nat.reduceLeDiff, Nat.reduceLT, Nat.reduceEqDiff, Int.reduceToNat, reduceIte, xe_aload, jx_rv_r, jx_rv_n, jx_rv_q, xe_inv1, jx_cc_i, jx_cc_v, Nat.reduceMod, Nat.reduceDiv, jx_cl9_i, xe_ifne, xe_iconst, xi_0, xx_0, xe_zreturn, xZ, xe_dup, jx_2_i, jx_2_l, jx_2_r, jx_2_n, jx_2_q, or_self, xk_getf, jx_gf_i, jx_ov_s, ak_V, xe_inv0, xe_iadd, xk_putf, ak_P, jx_pf_i, jx_pf_z, jx_pf_l, jx_pf_r, jx_pf_n, jx_pf_q, xi_1, xx_1, tx_r ht, tx_w ht, sw_r, sw_f, tx_f, tx_s, s1, sp_10, h19, sl, nI_add]
  · rw [sp_bl_f r] at s1 ⊢
    rw [if_neg r]
    simp only [cr_199 jx_ns_r, eb_199_0, eb_199_10, jx_ns_r, jx_ns_n, jx_ns_q, jx_ns_i, jx_gl_0, jx_gl_s, if_true, if_false, ite_true, ite_false, eq_self, Bool.false_eq_true, List.length_cons, List.length_nil, Nat.zero_le, Nat.reduceAdd, Nat.reduceSub, Nat.reduceLeDiff, Nat.reduceLT, Nat.reduceEqDiff, Int.reduceToNat, reduceIte, xe_aload, jx_rv_r, jx_rv_n, jx_rv_q, xe_inv1, jx_cc_i, jx_cc_v, Nat.reduceMod, Nat.reduceDiv, jx_cl9_i, xe_ifne, xe_iconst, xi_0, xx_0, xe_zreturn, xZ, xe_dup, jx_2_i, jx_2_l, jx_2_r, jx_2_n, jx_2_q, or_self, xk_getf, jx_gf_i, jx_ov_s, ak_V, xe_inv0, xe_iadd, xk_putf, ak_P, jx_pf_i, jx_pf_z, jx_pf_l, jx_pf_r, jx_pf_n, jx_pf_q, xi_1, xx_1, tx_r ht, sw_r, sw_f, tx_f, tx_s, s1]
end SDC
