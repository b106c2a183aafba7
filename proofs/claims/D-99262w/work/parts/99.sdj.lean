/-! TEXTS: signs of comparison, facts -/
set_option maxRecDepth 100000
/-- a sign of comparison read at n -/
noncomputable def sgn (tp : Nat → Int32) (M n : Nat) : (Nat × Nat) ⊕ (Int32 × Nat) :=
  if sg tp M (skp tp M n) = 61 then .inr (2, skp tp M n + 1)
  else if sg tp M (skp tp M n) = 60 then (if skp tp M n + 1 < M ∧ tp (skp tp M n + 1) = 61 then .inr (1, skp tp M n + 2) else .inr (0, skp tp M n + 1))
  else if sg tp M (skp tp M n) = 62 then (if skp tp M n + 1 < M ∧ tp (skp tp M n + 1) = 61 then .inr (3, skp tp M n + 2) else .inr (4, skp tp M n + 1))
  else .inl (0, skp tp M n)
noncomputable def cmpr (tp : Nat → Int32) (M n g : Nat) : Tr := match sm tp M n g with
  | .inl er => .inl er
  | .inr (L1, m, g1) => match sgn tp M m with
    | .inl er => .inl er
    | .inr (s, m2) => if g1 < 60 then (match sm tp M m2 (g1 + 1) with
      | .inl er => .inl er
      | .inr (L2, m3, g3) => .inr (fun w => cmv s (L1 w) (L2 w), m3, g3)) else .inl (3, skp tp M m)
noncomputable def fct (tp : Nat → Int32) (M : Nat) : Nat → Nat → Nat → Tr
  | 0, _, _ => .inl (2, 0)
  | f + 1, n, g =>
    if wmb tp M (skp tp M n) 19 = true then (if f = 0 then .inl (2, skp tp M n) else match fct tp M f (skp tp M n + 3) g with
      | .inl er => .inl er
      | .inr (B, m, g2) => .inr (fun w => !B w, m, g2))
    else if sg tp M (skp tp M n) = 91 then (if f = 0 then .inl (2, skp tp M n) else match tst tp M (fct tp M f) (skp tp M n + 1) g with
      | .inl er => .inl er
      | .inr (B, m, g2) => if sg tp M (skp tp M m) = 93 then .inr (B, skp tp M m + 1, g2) else .inl (0, skp tp M m))
    else cmpr tp M (skp tp M n) g
section SDJ
variable {d : Nat} {h : jx_H} {cu : Option Nat} {F : Nat → Int32} {o p q z : cq_C} {T : List Value} {x : Int32 × Int32} {ru im : Nat → Option Nat} {tp : Nat → Int32} {R : Nat → Nat → Int32} {s : Nat → Int32} {a : Nat → Nat → Int32} {w : Nat → Int64}
variable {t M e n g : Nat} {u' e' g' : Int32}
theorem T_sign (hT : T.length = 6) (ht : 151 ≤ t) (eM : F 9 = nI M) (hM : M ≤ 400) (hn : n ≤ M) :
    (∀ k pl, sgn tp M n = .inl (k, pl) → (k ≤ 4 ∧ pl ≤ M) ∧ jx_cr (d + 2) 218 [.ref t] (sw (tx h t (nI n) (e') (g') u') cu F o p q z T x ru im tp R) = some (.inr (), (sw (tx h t (nI (skp tp M n)) (e') (g') u') cu F o p q z T (nI k, nI pl) ru im tp R))) ∧
    (∀ v m, sgn tp M n = .inr (v, m) → (n < m ∧ m ≤ M) ∧ jx_cr (d + 2) 218 [.ref t] (sw (tx h t (nI n) (e') (g') u') cu F o p q z T x ru im tp R) = some (.inl (some (.int v)), (sw (tx h t (nI m) (e') (g') u') cu F o p q z T x ru im tp R))) := by
  have t3 : 3 ≤ t := by omega
  have s1 := fun d => T_see (d := d) (n := n) (h := h) (x := x) (cu := cu) (F := F) (o := o) (p := p) (q := q) (z := z) (T := T) (ru := ru) (im := im) (tp := tp) (R := R) (u' := u') (e' := e') (g' := g') ht eM hM hn
  have le := skp_le (tp := tp) hn
  have ge := skp_ge tp M n
  rw [sgn]
  generalize skp tp M n = m at le ge s1 ⊢
  have d1 := fun (d : Nat) => T_demand1 (d := d) (h := tx h t (nI m) e' g' u') (cu := cu) (F := F) (o := o) (p := p) (q := q) (z := z) (T := T) (x := x) (ru := ru) (im := im) (tp := tp) (R := R) (t := t) (l := 1) (v := 0) (n' := nI m) (by decide)
  have d0 := fun (d : Nat) => T_demand0 (d := d) (h := h) (x := x) (cu := cu) (F := F) (o := o) (p := p) (q := q) (z := z) (T := T) (ru := ru) (im := im) (tp := tp) (R := R) (u' := u') (v := 0) (l := nI m) (n' := nI m) (e' := e') (g' := g') hT ht
  by_cases q1 : sg tp M m = 61
  · have mM : m < M := sg_lt (fun z => by rw [z] at q1; exact absurd q1 (by decide))
    rw [if_pos q1]
    refine ⟨fun k pl hk => (by cases hk), fun v m2 hk => ?_⟩
    cases hk
    refine ⟨⟨by omega, by omega⟩, ?_⟩
    simp only [cr_218, eb_218_0, eb_218_24, eb_218_29, jx_ns_r, jx_ns_n, jx_ns_q, jx_ns_i, jx_gl_0, jx_gl_s, if_true, if_false, ite_true, ite_false, eq_self, Bool.false_eq_true, List.length_cons, List.length_nil, Nat.zero_le, Nat.reduceAdd, Nat.reduceSub, Nat.reduceLeDiff, Nat.reduceLT, Nat.reduceEqDiff, Int.reduceToNat, reduceIte, xe_aload, jx_rv_r, jx_rv_n, jx_rv_q, xe_inv0, jx_cc_i, jx_cc_v, Nat.reduceMod, Nat.reduceDiv, jx_cl9_i, xe_istore, xk_iload, jx_iv_i, ak_I, xe_iconst, xi_60, xe_icmp_eq, xi_61, xi_62, xe_icmp_ne, xe_goto_w, xi_1, xx_1, xe_goto, xi_0, xx_0, xk_getf, jx_gf_i, jx_ov_s, ak_V, xe_inv3, xe_dup, jx_2_i, jx_2_l, jx_2_r, jx_2_n, jx_2_q, or_self, xe_iadd, xk_putf, ak_P, jx_pf_i, jx_pf_z, jx_pf_l, jx_pf_r, jx_pf_n, jx_pf_q, xi_2, xx_2, xe_ireturn, xe_icmp_ge, xk_bald, ja_ba, ak_A, true_or, or_true, xe_ifeq, xi_3, xx_3, xi_4, xx_4, jx_s1, List.set_cons_zero, List.set_cons_succ, jx_2_u, jx_2_s, jx_k_i, jx_k_l, jx_k_r, jx_k_n, jx_k_u, jx_k_s, jx_k_q, tx_r ht, tx_w ht, sw_r, sw_f, tx_f, tx_s, s1, q1, sg_ne, d1, nI_1]
  rw [if_neg q1]
  by_cases q2 : sg tp M m = 60
  · have mM : m < M := sg_lt (fun z => by rw [z] at q2; exact absurd q2 (by decide))
    rw [if_pos q2]
    by_cases a1 : m + 1 < M
    · have h3 : ¬ nI M ≤ nI (m + 1) := nI_ge a1 (by omega)
      have i1 := sp_ix (show m + 1 < 400 by omega) (by decide)
      by_cases a2 : tp (m + 1) = 61
      · rw [if_pos ⟨a1, a2⟩]
        refine ⟨fun k pl hk => (by cases hk), fun v m2 hk => ?_⟩
        cases hk
        refine ⟨⟨by omega, by omega⟩, ?_⟩
        simp only [cr_218, eb_218_0, eb_218_24, eb_218_29, eb_218_55, eb_218_91, eb_218_106, eb_218_120, eb_218_124, eb_218_133, jx_ns_r, jx_ns_n, jx_ns_q, jx_ns_i, jx_gl_0, jx_gl_s, if_true, if_false, ite_true, ite_false, eq_self, Bool.false_eq_true, List.length_cons, List.length_nil, Nat.zero_le, Nat.reduceAdd, Nat.reduceSub, Nat.reduceLeDiff, Nat.reduceLT, Nat.reduceEqDiff, Int.reduceToNat, reduceIte, xe_aload, jx_rv_r, jx_rv_n, jx_rv_q, xe_inv0, jx_cc_i, jx_cc_v, Nat.reduceMod, Nat.reduceDiv, jx_cl9_i, xe_istore, xk_iload, jx_iv_i, ak_I, xe_iconst, xi_60, xe_icmp_eq, xi_61, xi_62, xe_icmp_ne, xe_goto_w, xi_1, xx_1, xe_goto, xi_0, xx_0, xk_getf, jx_gf_i, jx_ov_s, ak_V, xe_inv3, xe_dup, jx_2_i, jx_2_l, jx_2_r, jx_2_n, jx_2_q, or_self, xe_iadd, xk_putf, ak_P, jx_pf_i, jx_pf_z, jx_pf_l, jx_pf_r, jx_pf_n, jx_pf_q, xi_2, xx_2, xe_ireturn, xe_icmp_ge, xk_bald, ja_ba, ak_A, true_or, or_true, xe_ifeq, xi_3, xx_3, xi_4, xx_4, jx_s1, List.set_cons_zero, List.set_cons_succ, jx_2_u, jx_2_s, jx_k_i, jx_k_l, jx_k_r, jx_k_n, jx_k_u, jx_k_s, jx_k_q, tx_r ht, tx_w ht, sw_r, sw_f, tx_f, tx_s, s1, q2, sg_ne, d1, nI_1, eM, h3, i1, a2, sp_10]
      · rw [if_neg (fun z => a2 z.2)]
        refine ⟨fun k pl hk => (by cases hk), fun v m2 hk => ?_⟩
        cases hk
        refine ⟨⟨by omega, by omega⟩, ?_⟩
        simp only [cr_218, eb_218_0, eb_218_24, eb_218_29, eb_218_55, eb_218_90, eb_218_91, eb_218_106, eb_218_120, eb_218_124, eb_218_133, jx_ns_r, jx_ns_n, jx_ns_q, jx_ns_i, jx_gl_0, jx_gl_s, if_true, if_false, ite_true, ite_false, eq_self, Bool.false_eq_true, List.length_cons, List.length_nil, Nat.zero_le, Nat.reduceAdd, Nat.reduceSub, Nat.reduceLeDiff, Nat.reduceLT, Nat.reduceEqDiff, Int.reduceToNat, reduceIte, xe_aload, jx_rv_r, jx_rv_n, jx_rv_q, xe_inv0, jx_cc_i, jx_cc_v, Nat.reduceMod, Nat.reduceDiv, jx_cl9_i, xe_istore, xk_iload, jx_iv_i, ak_I, xe_iconst, xi_60, xe_icmp_eq, xi_61, xi_62, xe_icmp_ne, xe_goto_w, xi_1, xx_1, xe_goto, xi_0, xx_0, xk_getf, jx_gf_i, jx_ov_s, ak_V, xe_inv3, xe_dup, jx_2_i, jx_2_l, jx_2_r, jx_2_n, jx_2_q, or_self, xe_iadd, xk_putf, ak_P, jx_pf_i, jx_pf_z, jx_pf_l, jx_pf_r, jx_pf_n, jx_pf_q, xi_2, xx_2, xe_ireturn, xe_icmp_ge, xk_bald, ja_ba, ak_A, true_or, or_true, xe_ifeq, xi_3, xx_3, xi_4, xx_4, jx_s1, List.set_cons_zero, List.set_cons_succ, jx_2_u, jx_2_s, jx_k_i, jx_k_l, jx_k_r, jx_k_n, jx_k_u, jx_k_s, jx_k_q, tx_r ht, tx_w ht, sw_r, sw_f, tx_f, tx_s, s1, q2, sg_ne, d1, nI_1, eM, h3, i1, a2, sp_10]
    · have h3 : nI M ≤ nI (m + 1) := (nI_leI (by omega) (by omega)).mpr (by omega)
      rw [if_neg (fun z => a1 z.1)]
      refine ⟨fun k pl hk => (by cases hk), fun v m2 hk => ?_⟩
      cases hk
      refine ⟨⟨by omega, by omega⟩, ?_⟩
      simp only [cr_218, eb_218_0, eb_218_24, eb_218_29, eb_218_55, eb_218_90, eb_218_91, eb_218_106, eb_218_120, eb_218_124, eb_218_133, jx_ns_r, jx_ns_n, jx_ns_q, jx_ns_i, jx_gl_0, jx_gl_s, if_true, if_false, ite_true, ite_false, eq_self, Bool.false_eq_true, List.length_cons, List.length_nil, Nat.zero_le, Nat.reduceAdd, Nat.reduceSub, Nat.reduceLeDiff, Nat.reduceLT, Nat.reduceEqDiff, Int.reduceToNat, reduceIte, xe_aload, jx_rv_r, jx_rv_n, jx_rv_q, xe_inv0, jx_cc_i, jx_cc_v, Nat.reduceMod, Nat.reduceDiv, jx_cl9_i, xe_istore, xk_iload, jx_iv_i, ak_I, xe_iconst, xi_60, xe_icmp_eq, xi_61, xi_62, xe_icmp_ne, xe_goto_w, xi_1, xx_1, xe_goto, xi_0, xx_0, xk_getf, jx_gf_i, jx_ov_s, ak_V, xe_inv3, xe_dup, jx_2_i, jx_2_l, jx_2_r, jx_2_n, jx_2_q, or_self, xe_iadd, xk_putf, ak_P, jx_pf_i, jx_pf_z, jx_pf_l, jx_pf_r, jx_pf_n, jx_pf_q, xi_2, xx_2, xe_ireturn, xe_icmp_ge, xk_bald, ja_ba, ak_A, true_or, or_true, xe_ifeq, xi_3, xx_3, xi_4, xx_4, jx_s1, List.set_cons_zero, List.set_cons_succ, jx_2_u, jx_2_s, jx_k_i, jx_k_l, jx_k_r, jx_k_n, jx_k_u, jx_k_s, jx_k_q, tx_r ht, tx_w ht, sw_r, sw_f, tx_f, tx_s, s1, q2, sg_ne, d1, nI_1, eM, h3, sp_10]
  rw [if_neg q2]
  by_cases q3 : sg tp M m = 62
  · have mM : m < M := sg_lt (fun z => by rw [z] at q3; exact absurd q3 (by decide))
    rw [if_pos q3]
    by_cases a1 : m + 1 < M
    · have h3 : ¬ nI M ≤ nI (m + 1) := nI_ge a1 (by omega)
      have i1 := sp_ix (show m + 1 < 400 by omega) (by decide)
      by_cases a2 : tp (m + 1) = 61
      · rw [if_pos ⟨a1, a2⟩]
        refine ⟨fun k pl hk => (by cases hk), fun v m2 hk => ?_⟩
        cases hk
        refine ⟨⟨by omega, by omega⟩, ?_⟩
        simp only [cr_218, eb_218_0, eb_218_24, eb_218_29, eb_218_55, eb_218_91, eb_218_106, eb_218_124, eb_218_132, eb_218_133, jx_ns_r, jx_ns_n, jx_ns_q, jx_ns_i, jx_gl_0, jx_gl_s, if_true, if_false, ite_true, ite_false, eq_self, Bool.false_eq_true, List.length_cons, List.length_nil, Nat.zero_le, Nat.reduceAdd, Nat.reduceSub, Nat.reduceLeDiff, Nat.reduceLT, Nat.reduceEqDiff, Int.reduceToNat, reduceIte, xe_aload, jx_rv_r, jx_rv_n, jx_rv_q, xe_inv0, jx_cc_i, jx_cc_v, Nat.reduceMod, Nat.reduceDiv, jx_cl9_i, xe_istore, xk_iload, jx_iv_i, ak_I, xe_iconst, xi_60, xe_icmp_eq, xi_61, xi_62, xe_icmp_ne, xe_goto_w, xi_1, xx_1, xe_goto, xi_0, xx_0, xk_getf, jx_gf_i, jx_ov_s, ak_V, xe_inv3, xe_dup, jx_2_i, jx_2_l, jx_2_r, jx_2_n, jx_2_q, or_self, xe_iadd, xk_putf, ak_P, jx_pf_i, jx_pf_z, jx_pf_l, jx_pf_r, jx_pf_n, jx_pf_q, xi_2, xx_2, xe_ireturn, xe_icmp_ge, xk_bald, ja_ba, ak_A, true_or, or_true, xe_ifeq, xi_3, xx_3, xi_4, xx_4, jx_s1, List.set_cons_zero, List.set_cons_succ, jx_2_u, jx_2_s, jx_k_i, jx_k_l, jx_k_r, jx_k_n, jx_k_u, jx_k_s, jx_k_q, tx_r ht, tx_w ht, sw_r, sw_f, tx_f, tx_s, s1, q3, sg_ne, d1, nI_1, eM, h3, i1, a2, sp_10]
      · rw [if_neg (fun z => a2 z.2)]
        refine ⟨fun k pl hk => (by cases hk), fun v m2 hk => ?_⟩
        cases hk
        refine ⟨⟨by omega, by omega⟩, ?_⟩
        simp only [cr_218, eb_218_0, eb_218_24, eb_218_29, eb_218_55, eb_218_90, eb_218_91, eb_218_106, eb_218_124, eb_218_132, eb_218_133, jx_ns_r, jx_ns_n, jx_ns_q, jx_ns_i, jx_gl_0, jx_gl_s, if_true, if_false, ite_true, ite_false, eq_self, Bool.false_eq_true, List.length_cons, List.length_nil, Nat.zero_le, Nat.reduceAdd, Nat.reduceSub, Nat.reduceLeDiff, Nat.reduceLT, Nat.reduceEqDiff, Int.reduceToNat, reduceIte, xe_aload, jx_rv_r, jx_rv_n, jx_rv_q, xe_inv0, jx_cc_i, jx_cc_v, Nat.reduceMod, Nat.reduceDiv, jx_cl9_i, xe_istore, xk_iload, jx_iv_i, ak_I, xe_iconst, xi_60, xe_icmp_eq, xi_61, xi_62, xe_icmp_ne, xe_goto_w, xi_1, xx_1, xe_goto, xi_0, xx_0, xk_getf, jx_gf_i, jx_ov_s, ak_V, xe_inv3, xe_dup, jx_2_i, jx_2_l, jx_2_r, jx_2_n, jx_2_q, or_self, xe_iadd, xk_putf, ak_P, jx_pf_i, jx_pf_z, jx_pf_l, jx_pf_r, jx_pf_n, jx_pf_q, xi_2, xx_2, xe_ireturn, xe_icmp_ge, xk_bald, ja_ba, ak_A, true_or, or_true, xe_ifeq, xi_3, xx_3, xi_4, xx_4, jx_s1, List.set_cons_zero, List.set_cons_succ, jx_2_u, jx_2_s, jx_k_i, jx_k_l, jx_k_r, jx_k_n, jx_k_u, jx_k_s, jx_k_q, tx_r ht, tx_w ht, sw_r, sw_f, tx_f, tx_s, s1, q3, sg_ne, d1, nI_1, eM, h3, i1, a2, sp_10]
    · have h3 : nI M ≤ nI (m + 1) := (nI_leI (by omega) (by omega)).mpr (by omega)
      rw [if_neg (fun z => a1 z.1)]
      refine ⟨fun k pl hk => (by cases hk), fun v m2 hk => ?_⟩
      cases hk
      refine ⟨⟨by omega, by omega⟩, ?_⟩
      simp only [cr_218, eb_218_0, eb_218_24, eb_218_29, eb_218_55, eb_218_90, eb_218_91, eb_218_106, eb_218_124, eb_218_132, eb_218_133, jx_ns_r, jx_ns_n, jx_ns_q, jx_ns_i, jx_gl_0, jx_gl_s, if_true, if_false, ite_true, ite_false, eq_self, Bool.false_eq_true, List.length_cons, List.length_nil, Nat.zero_le, Nat.reduceAdd, Nat.reduceSub, Nat.reduceLeDiff, Nat.reduceLT, Nat.reduceEqDiff, Int.reduceToNat, reduceIte, xe_aload, jx_rv_r, jx_rv_n, jx_rv_q, xe_inv0, jx_cc_i, jx_cc_v, Nat.reduceMod, Nat.reduceDiv, jx_cl9_i, xe_istore, xk_iload, jx_iv_i, ak_I, xe_iconst, xi_60, xe_icmp_eq, xi_61, xi_62, xe_icmp_ne, xe_goto_w, xi_1, xx_1, xe_goto, xi_0, xx_0, xk_getf, jx_gf_i, jx_ov_s, ak_V, xe_inv3, xe_dup, jx_2_i, jx_2_l, jx_2_r, jx_2_n, jx_2_q, or_self, xe_iadd, xk_putf, ak_P, jx_pf_i, jx_pf_z, jx_pf_l, jx_pf_r, jx_pf_n, jx_pf_q, xi_2, xx_2, xe_ireturn, xe_icmp_ge, xk_bald, ja_ba, ak_A, true_or, or_true, xe_ifeq, xi_3, xx_3, xi_4, xx_4, jx_s1, List.set_cons_zero, List.set_cons_succ, jx_2_u, jx_2_s, jx_k_i, jx_k_l, jx_k_r, jx_k_n, jx_k_u, jx_k_s, jx_k_q, tx_r ht, tx_w ht, sw_r, sw_f, tx_f, tx_s, s1, q3, sg_ne, d1, nI_1, eM, h3, sp_10]
  rw [if_neg q3]
  refine ⟨fun k pl hk => ?_, fun v m2 hk => (by cases hk)⟩
  cases hk
  have k0 : nI 0 = 0 := rfl
  refine ⟨⟨by omega, le⟩, ?_⟩
  simp only [cr_218, eb_218_0, eb_218_28, eb_218_29, jx_ns_r, jx_ns_n, jx_ns_q, jx_ns_i, jx_gl_0, jx_gl_s, if_true, if_false, ite_true, ite_false, eq_self, Bool.false_eq_true, List.length_cons, List.length_nil, Nat.zero_le, Nat.reduceAdd, Nat.reduceSub, Nat.reduceLeDiff, Nat.reduceLT, Nat.reduceEqDiff, Int.reduceToNat, reduceIte, xe_aload, jx_rv_r, jx_rv_n, jx_rv_q, xe_inv0, jx_cc_i, jx_cc_v, Nat.reduceMod, Nat.reduceDiv, jx_cl9_i, xe_istore, xk_iload, jx_iv_i, ak_I, xe_iconst, xi_60, xe_icmp_eq, xi_61, xi_62, xe_icmp_ne, xe_goto_w, xi_1, xx_1, xe_goto, xi_0, xx_0, xk_getf, jx_gf_i, jx_ov_s, ak_V, xe_inv3, xe_dup, jx_2_i, jx_2_l, jx_2_r, jx_2_n, jx_2_q, or_self, xe_iadd, xk_putf, ak_P, jx_pf_i, jx_pf_z, jx_pf_l, jx_pf_r, jx_pf_n, jx_pf_q, xi_2, xx_2, xe_ireturn, xe_icmp_ge, xk_bald, ja_ba, ak_A, true_or, or_true, xe_ifeq, xi_3, xx_3, xi_4, xx_4, jx_s1, List.set_cons_zero, List.set_cons_succ, jx_2_u, jx_2_s, jx_k_i, jx_k_l, jx_k_r, jx_k_n, jx_k_u, jx_k_s, jx_k_q, tx_r ht, sw_r, sw_f, tx_f, tx_s, s1, q1, q2, q3, d0, k0, jx_cc_x xh_218]
theorem cp_dt {h1 h' : jx_H} {lo r r2 c : Nat} {L L2 : (Nat → Int64) → Int64} {v : Int32} (h3 : 3 ≤ lo) (q : ex (jx_new h1 (.inr (13, jx_nf 13)) (jx_nf 13).length) h' c) (d1 : dv h1 lo h1.2.1 r L) (d2 : dv h' (h1.2.1 + 1) h'.2.1 r2 L2) : dt (jx_put h' h1.2.1 (.inr (13, [.ref r, .ref r2, .int v]))) lo h'.2.1 h1.2.1 (fun w => cmv v (L w) (L2 w)) := by
  have ge : h1.2.1 + 1 ≤ h'.2.1 := q.1.1
  have lr := d1.1
  refine dt_cmp (dv_mono d1 h3 (Nat.le_refl _) (Nat.le_refl _) (fun j j1 j2 => ?_)) (dv_mono d2 (by omega) (Nat.le_refl _) (Nat.le_refl _) (fun j j1 j2 => ?_)) (by rw [jx_put_at, if_pos rfl])
  · rw [jx_put_at, if_neg (by omega), q.2.2.1 j (by show j < h1.2.1 + 1; omega), jx_new_at, if_neg (by omega)]
  · rw [jx_put_at, if_neg (by omega)]
theorem T_cmp (hT : T.length = 6) (ht : 151 ≤ t) (eM : F 9 = nI M) (hM : M ≤ 400) (d : Nat) (h : jx_H) (n g : Nat) (x : Int32 × Int32) (c0 p0 : Int32) (hth : t < h.2.1) (hs : ss_ok h) (hn : n ≤ M) (hg : g ≤ 60) :
    (∀ k pl, cmpr tp M n g = .inl (k, pl) → (k ≤ 4 ∧ pl ≤ M) ∧ ∃ h1 n2 e2 g2, ex h h1 (M - n) ∧ jx_eb (d + 13) 217 111 [.ref t, .int c0, .int p0, jx_un, jx_un, jx_un] [] (sw (tx h t (nI n) (nI e) (nI g) u') cu F o p q z T x ru im tp R) = some (.inr (), (sw (tx h1 t (n2) (e2) (g2) u') cu F o p q z T (nI k, nI pl) ru im tp R))) ∧
    (∀ L2 m g2, cmpr tp M n g = .inr (L2, m, g2) → (n < m ∧ m ≤ M ∧ g ≤ g2 ∧ g2 ≤ 60) ∧ ∃ h1 r2, ex h h1 (m - n) ∧ dt h1 h.2.1 h1.2.1 r2 L2 ∧ jx_eb (d + 13) 217 111 [.ref t, .int c0, .int p0, jx_un, jx_un, jx_un] [] (sw (tx h t (nI n) (nI e) (nI g) u') cu F o p q z T x ru im tp R) = some (.inl (some (.ref r2)), (sw (tx h1 t (nI m) (nI e) (nI g2) u') cu F o p q z T x ru im tp R))) := by
  have t3 : 3 ≤ t := by omega
  have vv := T_sum (e := e) (cu := cu) (F := F) (o := o) (p := p) (q := q) (z := z) (T := T) (ru := ru) (im := im) (tp := tp) (R := R) (u' := u') (t := t) hT ht eM hM (d + 3) h n g x hth hs hn hg
  rw [cmpr]
  cases hV : sm tp M n g with
  | inl er =>
    refine ⟨fun k pl hk => ?_, fun L2 m2 g2 hk => (by cases hk)⟩
    cases hk
    obtain ⟨b1, h1, n2, e2, g2, b2, b3⟩ := vv.1 k pl hV
    refine ⟨b1, h1, n2, e2, g2, b2, ?_⟩
    simp only [eb_217_111, jx_ns_r, jx_ns_n, jx_ns_q, jx_ns_i, jx_gl_0, jx_gl_s, if_true, if_false, ite_true, ite_false, eq_self, Bool.false_eq_true, List.length_cons, List.length_nil, Nat.zero_le, Nat.reduceAdd, Nat.reduceSub, Nat.reduceLeDiff, Nat.reduceLT, Nat.reduceEqDiff, Int.reduceToNat, reduceIte, xe_aload, jx_rv_r, jx_rv_n, jx_rv_q, xe_inv0, jx_cc_i, jx_cc_v, Nat.reduceMod, Nat.reduceDiv, jx_cl9_i, xe_istore, xk_getf, jx_gf_i, jx_ov_s, ak_V, xe_ldc, xe_inv1, xe_ifeq, xk_iload, jx_iv_i, ak_I, xe_dup, jx_2_i, jx_2_l, jx_2_r, jx_2_n, jx_2_q, or_self, xe_iconst, xi_3, xx_3, xe_iadd, xk_putf, ak_P, jx_pf_i, jx_pf_z, jx_pf_l, jx_pf_r, jx_pf_n, jx_pf_q, xe_new, xe_spc1, xe_astore, xi_1, xx_1, xe_isub, xe_areturn_n, xe_areturn_r, xi_91, xe_icmp_ne, xi_93, xi_0, xx_0, xe_inv3, xe_pop, xe_spc3, jx_s1, List.set_cons_zero, List.set_cons_succ, jx_2_u, jx_2_s, jx_k_i, jx_k_l, jx_k_r, jx_k_n, jx_k_u, jx_k_s, jx_k_q, tx_r ht, b3, jx_cc_x xh_217]
  | inr X =>
    obtain ⟨L1, m1, g1⟩ := X
    obtain ⟨⟨c1, c2, c3, c4⟩, h1, r1, b2, b3, b4⟩ := vv.2 L1 m1 g1 hV
    have hb : h.2.1 ≤ h1.2.1 := b2.1.1
    have l1 := b3.1
    have r13 : 3 ≤ r1 := by omega
    have le := skp_le (tp := tp) c2
    have ge := skp_ge tp M m1
    have ii := skp_i (tp := tp) c2
    have s1 := fun d => T_see (d := d) (n := m1) (h := h1) (x := x) (cu := cu) (F := F) (o := o) (p := p) (q := q) (z := z) (T := T) (ru := ru) (im := im) (tp := tp) (R := R) (u' := u') (e' := nI e) (g' := nI g1) ht eM hM c2
    have sgg := fun (d : Nat) => T_sign (d := d) (n := skp tp M m1) (h := h1) (x := x) (cu := cu) (F := F) (o := o) (p := p) (q := q) (z := z) (T := T) (ru := ru) (im := im) (tp := tp) (R := R) (u' := u') (t := t) (e' := nI e) (g' := nI g1) hT ht eM hM le
    have es : sgn tp M (skp tp M m1) = sgn tp M m1 := by rw [sgn, ii, sgn]
    rw [es] at sgg
    rw [ii] at sgg
    cases hS : sgn tp M m1 with
    | inl er =>
      simp only [hS]
      refine ⟨fun k pl hk => ?_, fun L2 m2 g2 hk => (by cases hk)⟩
      cases hk
      have sg2 := fun d => ((sgg d).1 k pl hS).2
      refine ⟨((sgg 0).1 k pl hS).1, h1, nI (skp tp M m1), nI e, nI g1, ex_le b2 (by omega), ?_⟩
      simp only [eb_217_111, jx_ns_r, jx_ns_n, jx_ns_q, jx_ns_i, jx_gl_0, jx_gl_s, if_true, if_false, ite_true, ite_false, eq_self, Bool.false_eq_true, List.length_cons, List.length_nil, Nat.zero_le, Nat.reduceAdd, Nat.reduceSub, Nat.reduceLeDiff, Nat.reduceLT, Nat.reduceEqDiff, Int.reduceToNat, reduceIte, xe_aload, jx_rv_r, jx_rv_n, jx_rv_q, xe_inv0, jx_cc_i, jx_cc_v, Nat.reduceMod, Nat.reduceDiv, jx_cl9_i, xe_istore, xk_getf, jx_gf_i, jx_ov_s, ak_V, xe_ldc, xe_inv1, xe_ifeq, xk_iload, jx_iv_i, ak_I, xe_dup, jx_2_i, jx_2_l, jx_2_r, jx_2_n, jx_2_q, or_self, xe_iconst, xi_3, xx_3, xe_iadd, xk_putf, ak_P, jx_pf_i, jx_pf_z, jx_pf_l, jx_pf_r, jx_pf_n, jx_pf_q, xe_new, xe_spc1, xe_astore, xi_1, xx_1, xe_isub, xe_areturn_n, xe_areturn_r, xi_91, xe_icmp_ne, xi_93, xi_0, xx_0, xe_inv3, xe_pop, xe_spc3, jx_s1, List.set_cons_zero, List.set_cons_succ, jx_2_u, jx_2_s, jx_k_i, jx_k_l, jx_k_r, jx_k_n, jx_k_u, jx_k_s, jx_k_q, tx_r ht, sw_r, sw_f, tx_f, tx_s, b4, r13, s1, sg2, jx_cc_x xh_217]
    | inr Y =>
      obtain ⟨sv, m2⟩ := Y
      have sg2 := fun d => ((sgg d).2 sv m2 hS).2
      have sg1 := ((sgg 0).2 sv m2 hS).1
      by_cases g6 : g1 < 60
      · simp only [hS, if_pos g6]
        have mk := fun d v => T_makes1 (d := d) (h := h1) (x := x) (cu := cu) (F := F) (o := o) (p := p) (q := q) (z := z) (T := T) (ru := ru) (im := im) (tp := tp) (R := R) (u' := u') (v := v) (n' := nI m2) (e' := nI e) ht g6
        have e0 : ex h1 (jx_new h1 (.inr (13, jx_nf 13)) (jx_nf 13).length) 1 := ex_new ex_refl rfl (by rw [nf_1.2.2.2.2.1]; show 3 ≤ 16; omega) (Nat.le_refl _)
        have nw := txw_new (h := h1) (x := x) (cu := cu) (F := F) (o := o) (p := p) (q := q) (z := z) (T := T) (ru := ru) (im := im) (tp := tp) (R := R) (u' := u') (t := t) (n' := nI m2) (e' := nI e) (g' := nI (g1 + 1)) (y := .inr (13, jx_nf 13)) (c := (jx_nf 13).length) (by omega) (by omega)
        have v2 := T_sum (e := e) (cu := cu) (F := F) (o := o) (p := p) (q := q) (z := z) (T := T) (ru := ru) (im := im) (tp := tp) (R := R) (u' := u') (t := t) hT ht eM hM (d + 3) (jx_new h1 (.inr (13, jx_nf 13)) (jx_nf 13).length) m2 (g1 + 1) x (by rw [jx_new_sz]; show t < h1.2.1 + 1; omega) (ex_ss (ex_tr b2 e0 (Nat.le_refl _)) (by omega) hs) (by omega) (by omega)
        have hr3 : 3 ≤ h1.2.1 := by omega
        cases hV2 : sm tp M m2 (g1 + 1) with
        | inl er =>
          refine ⟨fun k pl hk => ?_, fun L2 m2 g2 hk => (by cases hk)⟩
          cases hk
          obtain ⟨q1, h2, n2, e2, g2, q2, q3⟩ := v2.1 k pl hV2
          refine ⟨q1, h2, n2, e2, g2, ex_tr b2 (ex_tr e0 q2 (Nat.le_refl _)) (by omega), ?_⟩
          simp only [eb_217_111, jx_ns_r, jx_ns_n, jx_ns_q, jx_ns_i, jx_gl_0, jx_gl_s, if_true, if_false, ite_true, ite_false, eq_self, Bool.false_eq_true, List.length_cons, List.length_nil, Nat.zero_le, Nat.reduceAdd, Nat.reduceSub, Nat.reduceLeDiff, Nat.reduceLT, Nat.reduceEqDiff, Int.reduceToNat, reduceIte, xe_aload, jx_rv_r, jx_rv_n, jx_rv_q, xe_inv0, jx_cc_i, jx_cc_v, Nat.reduceMod, Nat.reduceDiv, jx_cl9_i, xe_istore, xk_getf, jx_gf_i, jx_ov_s, ak_V, xe_ldc, xe_inv1, xe_ifeq, xk_iload, jx_iv_i, ak_I, xe_dup, jx_2_i, jx_2_l, jx_2_r, jx_2_n, jx_2_q, or_self, xe_iconst, xi_3, xx_3, xe_iadd, xk_putf, ak_P, jx_pf_i, jx_pf_z, jx_pf_l, jx_pf_r, jx_pf_n, jx_pf_q, xe_new, xe_spc1, xe_astore, xi_1, xx_1, xe_isub, xe_areturn_n, xe_areturn_r, xi_91, xe_icmp_ne, xi_93, xi_0, xx_0, xe_inv3, xe_pop, xe_spc3, jx_s1, List.set_cons_zero, List.set_cons_succ, jx_2_u, jx_2_s, jx_k_i, jx_k_l, jx_k_r, jx_k_n, jx_k_u, jx_k_s, jx_k_q, tx_r ht, sw_r, sw_f, tx_f, tx_s, b4, r13, s1, sg2, mk, nw, hr3, txw_sz, q3, jx_cc_x xh_217]
        | inr Z =>
          obtain ⟨L2, m3, g3⟩ := Z
          obtain ⟨⟨y1, y2, y3, y4⟩, h2, r2, q2, q3, q4⟩ := v2.2 L2 m3 g3 hV2
          refine ⟨fun k pl hk => (by cases hk), fun L3 m4 g4 hk => ?_⟩
          cases hk
          have hb2 : h1.2.1 + 1 ≤ h2.2.1 := q2.1.1
          have l2 := q3.1
          have r23 : 3 ≤ r2 := by omega
          have pd := cp_dt (v := sv) (by omega) q2 b3 q3
          have pi := Compare_init (d := d + 11) (r := h1.2.1) (r1 := r1) (r2 := r2) (v := sv) (H := (sw (tx h2 t (nI m3) (nI e) (nI g3) u') cu F o p q z T x ru im tp R)) hr3 r13 r23 (by rw [txw_at (by omega) (by omega), q2.2.2.1 _ (by show h1.2.1 < h1.2.1 + 1; omega), jx_new_at, if_pos rfl])
          rw [txw_put (by omega) (by omega)] at pi
          refine ⟨⟨by omega, y2, by omega, y4⟩, _, h1.2.1, ex_put (ex_tr b2 (ex_tr e0 q2 (Nat.le_refl _)) (by omega)) rfl hb, pd, ?_⟩
          simp only [eb_217_111, jx_ns_r, jx_ns_n, jx_ns_q, jx_ns_i, jx_gl_0, jx_gl_s, if_true, if_false, ite_true, ite_false, eq_self, Bool.false_eq_true, List.length_cons, List.length_nil, Nat.zero_le, Nat.reduceAdd, Nat.reduceSub, Nat.reduceLeDiff, Nat.reduceLT, Nat.reduceEqDiff, Int.reduceToNat, reduceIte, xe_aload, jx_rv_r, jx_rv_n, jx_rv_q, xe_inv0, jx_cc_i, jx_cc_v, Nat.reduceMod, Nat.reduceDiv, jx_cl9_i, xe_istore, xk_getf, jx_gf_i, jx_ov_s, ak_V, xe_ldc, xe_inv1, xe_ifeq, xk_iload, jx_iv_i, ak_I, xe_dup, jx_2_i, jx_2_l, jx_2_r, jx_2_n, jx_2_q, or_self, xe_iconst, xi_3, xx_3, xe_iadd, xk_putf, ak_P, jx_pf_i, jx_pf_z, jx_pf_l, jx_pf_r, jx_pf_n, jx_pf_q, xe_new, xe_spc1, xe_astore, xi_1, xx_1, xe_isub, xe_areturn_n, xe_areturn_r, xi_91, xe_icmp_ne, xi_93, xi_0, xx_0, xe_inv3, xe_pop, xe_spc3, jx_s1, List.set_cons_zero, List.set_cons_succ, jx_2_u, jx_2_s, jx_k_i, jx_k_l, jx_k_r, jx_k_n, jx_k_u, jx_k_s, jx_k_q, tx_r ht, sw_r, sw_f, tx_f, tx_s, b4, r13, s1, sg2, mk, nw, hr3, txw_sz, q4, r23, pi]
      · have g60 : g1 = 60 := by omega
        subst g60
        simp only [hS, if_neg g6]
        refine ⟨fun k pl hk => ?_, fun L2 m2 g2 hk => (by cases hk)⟩
        cases hk
        have k3 : nI 3 = 3 := rfl
        have mk0 := fun (d : Nat) (v : Int32) => T_makes0 (d := d) (h := h1) (x := x) (cu := cu) (F := F) (o := o) (p := p) (q := q) (z := z) (T := T) (ru := ru) (im := im) (tp := tp) (R := R) (u' := u') (v := v) (n' := nI m2) (e' := nI e) hT ht
        refine ⟨⟨by omega, le⟩, h1, nI m2, nI e, nI 60, ex_le b2 (by omega), ?_⟩
        simp only [eb_217_111, jx_ns_r, jx_ns_n, jx_ns_q, jx_ns_i, jx_gl_0, jx_gl_s, if_true, if_false, ite_true, ite_false, eq_self, Bool.false_eq_true, List.length_cons, List.length_nil, Nat.zero_le, Nat.reduceAdd, Nat.reduceSub, Nat.reduceLeDiff, Nat.reduceLT, Nat.reduceEqDiff, Int.reduceToNat, reduceIte, xe_aload, jx_rv_r, jx_rv_n, jx_rv_q, xe_inv0, jx_cc_i, jx_cc_v, Nat.reduceMod, Nat.reduceDiv, jx_cl9_i, xe_istore, xk_getf, jx_gf_i, jx_ov_s, ak_V, xe_ldc, xe_inv1, xe_ifeq, xk_iload, jx_iv_i, ak_I, xe_dup, jx_2_i, jx_2_l, jx_2_r, jx_2_n, jx_2_q, or_self, xe_iconst, xi_3, xx_3, xe_iadd, xk_putf, ak_P, jx_pf_i, jx_pf_z, jx_pf_l, jx_pf_r, jx_pf_n, jx_pf_q, xe_new, xe_spc1, xe_astore, xi_1, xx_1, xe_isub, xe_areturn_n, xe_areturn_r, xi_91, xe_icmp_ne, xi_93, xi_0, xx_0, xe_inv3, xe_pop, xe_spc3, jx_s1, List.set_cons_zero, List.set_cons_succ, jx_2_u, jx_2_s, jx_k_i, jx_k_l, jx_k_r, jx_k_n, jx_k_u, jx_k_s, jx_k_q, tx_r ht, sw_r, sw_f, tx_f, tx_s, b4, r13, s1, sg2, mk0, k3, jx_cc_x xh_217]
end SDJ
