/-! SpoonCourt: isSpared, spare -/
set_option maxRecDepth 100000
/-- no hour of m, from the k-th on, in which one is dubbed with i, gloves on in the hours of the set -/
def sp_spd (Lo : Option ((Nat → Int64) → Int64)) (i set : Int32) : Nat → Nat → (Nat → Int32) × (Nat → Nat → Int32) → Bool
  | 0, _, _ => true
  | m + 1, k, y => if ¬ cq_ws (va_up y.1 10 ((set >>> (nI k &&& 31)) &&& 1)) y.2 = 0 ∧ (cq_go Lo (va_up y.1 10 ((set >>> (nI k &&& 31)) &&& 1), y.2)).1 8 = i then false else sp_spd Lo i set m (k + 1) (cq_go Lo (va_up y.1 10 ((set >>> (nI k &&& 31)) &&& 1), y.2))
/-- the best set of the first k -/
def sp_bst (P : Nat → Bool) : Nat → Int32
  | 0 => -1
  | k + 1 => if ¬ sp_bst P k = -1 ∧ cq_bc (sp_bst P k) ≤ cq_bc (nI k) then sp_bst P k else if P k = true then nI k else sp_bst P k
theorem sp_a1 (x : Int32) : x &&& 1 = 0 ∨ x &&& 1 = 1 := by
  have h : (x &&& 1).toBitVec = (BitVec.ofBool (x.toBitVec.getLsbD 0)).setWidth 32 := BitVec.and_one_eq_setWidth_ofBool_getLsbD
  cases hb : x.toBitVec.getLsbD 0 <;> rw [hb] at h
  · exact .inl (Int32.toBitVec_inj.mp (h.trans (by decide)))
  · exact .inr (Int32.toBitVec_inj.mp (h.trans (by decide)))
theorem sp_bit {x : Int32} : ∃ g, g ≤ 9 ∧ x &&& 1 = nI g := by
  rcases sp_a1 x with h | h
  · exact ⟨0, by omega, h⟩
  · exact ⟨1, by omega, h⟩
theorem sp_spd_c {tm pm day : Nat} {Lo : Option ((Nat → Int64) → Int64)} {i set : Int32} : ∀ m k now (s s' : Nat → Int32) (a a' : Nat → Nat → Int32), cq_iv s a day tm pm now → now + m < 2 ^ 31 → cq_eq tm pm day s s' a a' → sp_spd Lo i set m k (s, a) = sp_spd Lo i set m k (s', a') := by
  intro m
  induction m with
  | zero => intros; rfl
  | succ m ih =>
    intro k now s s' a a' iv hn h
    have iv2 := cq_iv_10 iv (sp_bit (x := set >>> (nI k &&& 31)))
    have h2 := cq_eq_sc (j := 10) (k := (set >>> (nI k &&& 31)) &&& 1) h
    have g := cq_go_c (Lo := Lo) iv2 (by omega) h2
    simp only [sp_spd, cq_ws_c iv2 h2, g.1 8 (by decide) (by decide) (by decide) (by decide)]
    rw [ih (k + 1) (now + 1) _ _ _ _ (cq_iv_go iv2 (by omega)) (by omega) g]
section SN
variable {d : Nat} {h : jx_H} {cu : Option Nat} {F : Nat → Int32} {o p q z : cq_C} {T : List Value} {x : Int32 × Int32} {ru im : Nat → Option Nat} {tp : Nat → Int32} {R : Nat → Nat → Int32} {s : Nat → Int32} {a : Nat → Nat → Int32} {w : Nat → Int64}
variable {i k : Int32} {t tm pm day um now D n : Nat} {lo : Option Nat} {Lo : Option ((Nat → Int64) → Int64)} {ps : Nat → Int32} {pa : Nat → Nat → Int32} {pw : Nat → Int64}
theorem sp_isSpared {u : Nat} {set : Int32} (iv : cq_iv s a day tm pm now) (hn : now ≤ 999) (h60 : n ≤ 60) (hlo : sp_lo F ru lo) (hL : sp_lw (D + 2) h lo Lo) (hb : sp_bs tm pm day s ps a pa) :
    ∃ g : cq_C, sp_bs tm pm day s g.1 a g.2.1 ∧ jx_cr (d + D + 7) 28 [.ref 48, .int i, .int (nI n), .int set] (sw h (some 49) F (s, a, w) (ps, pa, pw) q z T x ru im tp R) = some (.inl (some (.int (if sp_spd Lo i set n 0 (s, a) = true then 1 else 0))), (sw h (some 49) F (s, a, w) g q z T x ru im tp R)) := by
  have t6 := iv.2.2.2.2.1; have p6 := iv.2.2.2.2.2.2.1; have es := iv.2.2.2.2.2.1; have et := iv.2.2.2.1; have d12 := iv.2.2.1; have d1 := iv.2.1
  have key := jx_lp (d := d + D + 6) (y := 28) (L := 15) (n := n) (γ := cq_C) (ls := fun m _ => [.ref 48, .int i, .int (nI n), .int set, .int (nI m)]) (H := fun _ g => (sw h (some 49) F (s, a, w) g q z T x ru im tp R))
    (I := fun m g => sp_bs tm pm day s g.1 a g.2.1 ∧ cq_iv g.1 g.2.1 day tm pm (now + m) ∧ sp_spd Lo i set (n - m) m (g.1, g.2.1) = sp_spd Lo i set n 0 (s, a))
    (G := fun r => ∃ g : cq_C, sp_bs tm pm day s g.1 a g.2.1 ∧ r = some (.inl (some (.int (if sp_spd Lo i set n 0 (s, a) = true then 1 else 0))), (sw h (some 49) F (s, a, w) g q z T x ru im tp R))) ?_ ?_ n 0 (sp_ss s ps, sp_sa a pa, pw) (by omega) ⟨sp_bs_ss hb, cq_iv_c iv (sp_bs_e t6 p6 hb), (sp_spd_c n 0 now _ _ _ _ iv (by omega) (sp_bs_e t6 p6 hb)).symm⟩
  · obtain ⟨g, hg, e⟩ := key
    refine ⟨g, hg, ?_⟩
    rw [nI_0] at e
    simp only [cr_28, eb_28_0, jx_ns_r, jx_ns_n, jx_ns_q, jx_ns_i, jx_gl_0, jx_gl_s, if_true, if_false, ite_true, ite_false, eq_self, Bool.false_eq_true, List.length_cons, List.length_nil, Nat.zero_le, Nat.reduceAdd, Nat.reduceSub, Nat.reduceLeDiff, Nat.reduceLT, Nat.reduceEqDiff, Int.reduceToNat, reduceIte, xe_aload, jx_rv_r, jx_rv_n, jx_rv_q, xk_getf, jx_gf_i, jx_ov_s, ak_V, xe_inv1, jx_cc_i, jx_cc_v, Nat.reduceMod, Nat.reduceDiv, jx_cl9_i, xe_pop, jx_2_i, jx_2_l, jx_2_r, jx_2_n, jx_2_q, or_self, xe_iconst, xi_0, xx_0, xe_istore, xe_goto_w, xk_iload, jx_iv_i, ak_I, xe_icmp_ge, xe_ishr, xi_1, xx_1, xe_iand, xk_putf, ak_P, jx_pf_i, jx_pf_z, jx_pf_l, jx_pf_r, jx_pf_n, jx_pf_q, xe_inv0, xe_ifeq, xe_icmp_ne, xe_zreturn, xZ, xk_iinc, ak_C, xe_goto, jx_s1, List.set_cons_zero, List.set_cons_succ, jx_2_u, jx_2_s, jx_k_i, jx_k_l, jx_k_r, jx_k_n, jx_k_u, jx_k_s, jx_k_q, sw_r, sw_f, sw_s, sw_wo, sw_ro, sw_rp, sw_woo, sw_wor, sw_wpo, sw_wpr, cq_f, cq_s, va_up_s, va_rf_s, va_rf_n, sp_stand]
    exact e
  · rintro m ⟨ps, pa, pw⟩ hm ⟨hb, ivm, hf⟩
    have h3 : ¬ nI n ≤ nI m := nI_ge hm (by omega)
    have iv2 := cq_iv_10 ivm (sp_bit (x := set >>> (nI m &&& 31)))
    obtain ⟨w1, e1⟩ := sp_hour (d := d + 1) (cu := some 49) (F := F) (o := (s, a, w)) (q := q) (z := z) (T := T) (x := x) (ru := ru) (im := im) (tp := tp) (R := R) (pw := pw) iv2 (by omega) hL
    rw [show d + 1 + D + 5 = d + D + 6 by omega] at e1
    rw [show n - m = (n - (m + 1)) + 1 by omega, sp_spd] at hf
    simp only at hf
    by_cases r1 : cq_ws (va_up ps 10 ((set >>> (nI m &&& 31)) &&& 1)) pa = 0
    · rw [if_neg (fun r => r.1 r1)] at hf
      refine .inr ⟨((cq_go Lo (va_up ps 10 ((set >>> (nI m &&& 31)) &&& 1), pa)).1, (cq_go Lo (va_up ps 10 ((set >>> (nI m &&& 31)) &&& 1), pa)).2, w1), ⟨sp_bs_go (sp_bs_sc hb (by omega)), (show cq_iv _ _ day tm pm (now + m + 1) from cq_iv_go iv2 (by omega)), hf⟩, ?_⟩
      rw [eb_28_15]
      simp only [eb_28_61, jx_ns_r, jx_ns_n, jx_ns_q, jx_ns_i, jx_gl_0, jx_gl_s, if_true, if_false, ite_true, ite_false, eq_self, Bool.false_eq_true, List.length_cons, List.length_nil, Nat.zero_le, Nat.reduceAdd, Nat.reduceSub, Nat.reduceLeDiff, Nat.reduceLT, Nat.reduceEqDiff, Int.reduceToNat, reduceIte, xe_aload, jx_rv_r, jx_rv_n, jx_rv_q, xk_getf, jx_gf_i, jx_ov_s, ak_V, xe_inv1, jx_cc_i, jx_cc_v, Nat.reduceMod, Nat.reduceDiv, jx_cl9_i, xe_pop, jx_2_i, jx_2_l, jx_2_r, jx_2_n, jx_2_q, or_self, xe_iconst, xi_0, xx_0, xe_istore, xe_goto_w, xk_iload, jx_iv_i, ak_I, xe_icmp_ge, xe_ishr, xi_1, xx_1, xe_iand, xk_putf, ak_P, jx_pf_i, jx_pf_z, jx_pf_l, jx_pf_r, jx_pf_n, jx_pf_q, xe_inv0, xe_ifeq, xe_icmp_ne, xe_zreturn, xZ, xk_iinc, ak_C, xe_goto, jx_s1, List.set_cons_zero, List.set_cons_succ, jx_2_u, jx_2_s, jx_k_i, jx_k_l, jx_k_r, jx_k_n, jx_k_u, jx_k_s, jx_k_q, sw_r, sw_f, sw_s, sw_wo, sw_ro, sw_rp, sw_woo, sw_wor, sw_wpo, sw_wpr, cq_f, cq_s, va_up_s, va_rf_s, va_rf_n, h3, sc_law hlo, e1, r1, nI_1]
    · by_cases r2 : (cq_go Lo (va_up ps 10 ((set >>> (nI m &&& 31)) &&& 1), pa)).1 8 = i
      · rw [if_pos ⟨r1, r2⟩] at hf
        refine .inl ⟨((cq_go Lo (va_up ps 10 ((set >>> (nI m &&& 31)) &&& 1), pa)).1, (cq_go Lo (va_up ps 10 ((set >>> (nI m &&& 31)) &&& 1), pa)).2, w1), sp_bs_go (sp_bs_sc hb (by omega)), ?_⟩
        rw [← hf]
        simp only [eb_28_15, jx_ns_r, jx_ns_n, jx_ns_q, jx_ns_i, jx_gl_0, jx_gl_s, if_true, if_false, ite_true, ite_false, eq_self, Bool.false_eq_true, List.length_cons, List.length_nil, Nat.zero_le, Nat.reduceAdd, Nat.reduceSub, Nat.reduceLeDiff, Nat.reduceLT, Nat.reduceEqDiff, Int.reduceToNat, reduceIte, xe_aload, jx_rv_r, jx_rv_n, jx_rv_q, xk_getf, jx_gf_i, jx_ov_s, ak_V, xe_inv1, jx_cc_i, jx_cc_v, Nat.reduceMod, Nat.reduceDiv, jx_cl9_i, xe_pop, jx_2_i, jx_2_l, jx_2_r, jx_2_n, jx_2_q, or_self, xe_iconst, xi_0, xx_0, xe_istore, xe_goto_w, xk_iload, jx_iv_i, ak_I, xe_icmp_ge, xe_ishr, xi_1, xx_1, xe_iand, xk_putf, ak_P, jx_pf_i, jx_pf_z, jx_pf_l, jx_pf_r, jx_pf_n, jx_pf_q, xe_inv0, xe_ifeq, xe_icmp_ne, xe_zreturn, xZ, xk_iinc, ak_C, xe_goto, jx_s1, List.set_cons_zero, List.set_cons_succ, jx_2_u, jx_2_s, jx_k_i, jx_k_l, jx_k_r, jx_k_n, jx_k_u, jx_k_s, jx_k_q, sw_r, sw_f, sw_s, sw_wo, sw_ro, sw_rp, sw_woo, sw_wor, sw_wpo, sw_wpr, cq_f, cq_s, va_up_s, va_rf_s, va_rf_n, h3, sc_law hlo, e1, r1, r2]
      · rw [if_neg (fun r => r2 r.2)] at hf
        refine .inr ⟨((cq_go Lo (va_up ps 10 ((set >>> (nI m &&& 31)) &&& 1), pa)).1, (cq_go Lo (va_up ps 10 ((set >>> (nI m &&& 31)) &&& 1), pa)).2, w1), ⟨sp_bs_go (sp_bs_sc hb (by omega)), (show cq_iv _ _ day tm pm (now + m + 1) from cq_iv_go iv2 (by omega)), hf⟩, ?_⟩
        rw [eb_28_15]
        simp only [eb_28_61, jx_ns_r, jx_ns_n, jx_ns_q, jx_ns_i, jx_gl_0, jx_gl_s, if_true, if_false, ite_true, ite_false, eq_self, Bool.false_eq_true, List.length_cons, List.length_nil, Nat.zero_le, Nat.reduceAdd, Nat.reduceSub, Nat.reduceLeDiff, Nat.reduceLT, Nat.reduceEqDiff, Int.reduceToNat, reduceIte, xe_aload, jx_rv_r, jx_rv_n, jx_rv_q, xk_getf, jx_gf_i, jx_ov_s, ak_V, xe_inv1, jx_cc_i, jx_cc_v, Nat.reduceMod, Nat.reduceDiv, jx_cl9_i, xe_pop, jx_2_i, jx_2_l, jx_2_r, jx_2_n, jx_2_q, or_self, xe_iconst, xi_0, xx_0, xe_istore, xe_goto_w, xk_iload, jx_iv_i, ak_I, xe_icmp_ge, xe_ishr, xi_1, xx_1, xe_iand, xk_putf, ak_P, jx_pf_i, jx_pf_z, jx_pf_l, jx_pf_r, jx_pf_n, jx_pf_q, xe_inv0, xe_ifeq, xe_icmp_ne, xe_zreturn, xZ, xk_iinc, ak_C, xe_goto, jx_s1, List.set_cons_zero, List.set_cons_succ, jx_2_u, jx_2_s, jx_k_i, jx_k_l, jx_k_r, jx_k_n, jx_k_u, jx_k_s, jx_k_q, sw_r, sw_f, sw_s, sw_wo, sw_ro, sw_rp, sw_woo, sw_wor, sw_wpo, sw_wpr, cq_f, cq_s, va_up_s, va_rf_s, va_rf_n, h3, sc_law hlo, e1, r1, r2, nI_1]
  · rintro ⟨ps, pa, pw⟩ ⟨hb, ivm, hf⟩
    refine ⟨(ps, pa, pw), hb, ?_⟩
    rw [Nat.sub_self] at hf
    rw [← hf]
    simp only [eb_28_15, eb_28_67, jx_ns_r, jx_ns_n, jx_ns_q, jx_ns_i, jx_gl_0, jx_gl_s, if_true, if_false, ite_true, ite_false, eq_self, Bool.false_eq_true, List.length_cons, List.length_nil, Nat.zero_le, Nat.reduceAdd, Nat.reduceSub, Nat.reduceLeDiff, Nat.reduceLT, Nat.reduceEqDiff, Int.reduceToNat, reduceIte, xe_aload, jx_rv_r, jx_rv_n, jx_rv_q, xk_getf, jx_gf_i, jx_ov_s, ak_V, xe_inv1, jx_cc_i, jx_cc_v, Nat.reduceMod, Nat.reduceDiv, jx_cl9_i, xe_pop, jx_2_i, jx_2_l, jx_2_r, jx_2_n, jx_2_q, or_self, xe_iconst, xi_0, xx_0, xe_istore, xe_goto_w, xk_iload, jx_iv_i, ak_I, xe_icmp_ge, xe_ishr, xi_1, xx_1, xe_iand, xk_putf, ak_P, jx_pf_i, jx_pf_z, jx_pf_l, jx_pf_r, jx_pf_n, jx_pf_q, xe_inv0, xe_ifeq, xe_icmp_ne, xe_zreturn, xZ, xk_iinc, ak_C, xe_goto, jx_s1, List.set_cons_zero, List.set_cons_succ, jx_2_u, jx_2_s, jx_k_i, jx_k_l, jx_k_r, jx_k_n, jx_k_u, jx_k_s, jx_k_q, nI_leI (show n < 2 ^ 31 by omega) (show n < 2 ^ 31 by omega), Nat.le_refl, sp_spd]
theorem sc_spare0 {j : Int32} : jx_cr (d + 2) 29 [.ref 48, .int i, .int j, .int k] (sw h none F o p q z T x ru im tp R) = some (.inl (some (.int (-1))), (sw h none F o p q z T x ru im tp R)) := by
  simp only [cr_29, eb_29_0, eb_29_30, jx_ns_r, jx_ns_n, jx_ns_q, jx_ns_i, jx_gl_0, jx_gl_s, if_true, if_false, ite_true, ite_false, eq_self, Bool.false_eq_true, List.length_cons, List.length_nil, Nat.zero_le, Nat.reduceAdd, Nat.reduceSub, Nat.reduceLeDiff, Nat.reduceLT, Nat.reduceEqDiff, Int.reduceToNat, reduceIte, xe_aload, jx_rv_r, jx_rv_n, jx_rv_q, xk_iload, jx_iv_i, ak_I, xe_inv1, jx_cc_i, jx_cc_v, Nat.reduceMod, Nat.reduceDiv, jx_cl9_i, xe_ifeq, xe_i2l, xe_lconst, xl_1, xl_8, xe_sta3, xl_0, xe_ifne, xe_goto_w, xe_iconst, xi_m1, xe_ireturn, xk_getf, jx_gf_i, jx_ov_s, ak_V, xe_pop, jx_2_i, jx_2_l, jx_2_r, jx_2_n, jx_2_q, or_self, xe_istore, xi_0, xx_0, xi_1, xx_1, xe_ishl, xe_icmp_ge, xe_icmp_eq, xe_sta1, xe_icmp_lt, xe_goto, xe_inv3, xk_iinc, ak_C, jx_s1, List.set_cons_zero, List.set_cons_succ, jx_2_u, jx_2_s, jx_k_i, jx_k_l, jx_k_r, jx_k_n, jx_k_u, jx_k_s, jx_k_q, sw_r, sw_f, sw_s, sw_wo, sw_ro, sw_rp, sw_woo, sw_wor, sw_wpo, sw_wpr, cq_f, cq_s, va_up_s, va_rf_s, va_rf_n, sc_isThing0]
theorem sc_spare1 {j : Int32} (hq : ¬ ((0 ≤ i ∧ i < s 2) ∧ (1 ≤ j.toInt64 ∧ j.toInt64 ≤ 8) ∧ 0 ≤ k.toInt64 ∧ k.toInt64 ≤ 1)) : jx_cr (d + 2) 29 [.ref 48, .int i, .int j, .int k] (sw h (some 49) F (s, a, w) p q z T x ru im tp R) = some (.inl (some (.int (-1))), (sw h (some 49) F (s, a, w) p q z T x ru im tp R)) := by
  by_cases q1 : 0 ≤ i ∧ i < s 2
  · by_cases q2 : 1 ≤ j.toInt64 ∧ j.toInt64 ≤ 8
    · have q3 : ¬ (0 ≤ k.toInt64 ∧ k.toInt64 ≤ 1) := fun r => hq ⟨q1, q2, r⟩
      simp only [cr_29, eb_29_0, eb_29_30, jx_ns_r, jx_ns_n, jx_ns_q, jx_ns_i, jx_gl_0, jx_gl_s, if_true, if_false, ite_true, ite_false, eq_self, Bool.false_eq_true, List.length_cons, List.length_nil, Nat.zero_le, Nat.reduceAdd, Nat.reduceSub, Nat.reduceLeDiff, Nat.reduceLT, Nat.reduceEqDiff, Int.reduceToNat, reduceIte, xe_aload, jx_rv_r, jx_rv_n, jx_rv_q, xk_iload, jx_iv_i, ak_I, xe_inv1, jx_cc_i, jx_cc_v, Nat.reduceMod, Nat.reduceDiv, jx_cl9_i, xe_ifeq, xe_i2l, xe_lconst, xl_1, xl_8, xe_sta3, xl_0, xe_ifne, xe_goto_w, xe_iconst, xi_m1, xe_ireturn, xk_getf, jx_gf_i, jx_ov_s, ak_V, xe_pop, jx_2_i, jx_2_l, jx_2_r, jx_2_n, jx_2_q, or_self, xe_istore, xi_0, xx_0, xi_1, xx_1, xe_ishl, xe_icmp_ge, xe_icmp_eq, xe_sta1, xe_icmp_lt, xe_goto, xe_inv3, xk_iinc, ak_C, jx_s1, List.set_cons_zero, List.set_cons_succ, jx_2_u, jx_2_s, jx_k_i, jx_k_l, jx_k_r, jx_k_n, jx_k_u, jx_k_s, jx_k_q, sw_r, sw_f, sw_s, sw_wo, sw_ro, sw_rp, sw_woo, sw_wor, sw_wpo, sw_wpr, cq_f, cq_s, va_up_s, va_rf_s, va_rf_n, sc_isThing1, cq_inL, q1, q2, q3, and_self, sp_10]
    · simp only [cr_29, eb_29_0, eb_29_30, jx_ns_r, jx_ns_n, jx_ns_q, jx_ns_i, jx_gl_0, jx_gl_s, if_true, if_false, ite_true, ite_false, eq_self, Bool.false_eq_true, List.length_cons, List.length_nil, Nat.zero_le, Nat.reduceAdd, Nat.reduceSub, Nat.reduceLeDiff, Nat.reduceLT, Nat.reduceEqDiff, Int.reduceToNat, reduceIte, xe_aload, jx_rv_r, jx_rv_n, jx_rv_q, xk_iload, jx_iv_i, ak_I, xe_inv1, jx_cc_i, jx_cc_v, Nat.reduceMod, Nat.reduceDiv, jx_cl9_i, xe_ifeq, xe_i2l, xe_lconst, xl_1, xl_8, xe_sta3, xl_0, xe_ifne, xe_goto_w, xe_iconst, xi_m1, xe_ireturn, xk_getf, jx_gf_i, jx_ov_s, ak_V, xe_pop, jx_2_i, jx_2_l, jx_2_r, jx_2_n, jx_2_q, or_self, xe_istore, xi_0, xx_0, xi_1, xx_1, xe_ishl, xe_icmp_ge, xe_icmp_eq, xe_sta1, xe_icmp_lt, xe_goto, xe_inv3, xk_iinc, ak_C, jx_s1, List.set_cons_zero, List.set_cons_succ, jx_2_u, jx_2_s, jx_k_i, jx_k_l, jx_k_r, jx_k_n, jx_k_u, jx_k_s, jx_k_q, sw_r, sw_f, sw_s, sw_wo, sw_ro, sw_rp, sw_woo, sw_wor, sw_wpo, sw_wpr, cq_f, cq_s, va_up_s, va_rf_s, va_rf_n, sc_isThing1, cq_inL, q1, q2, and_self, sp_10]
  · simp only [cr_29, eb_29_0, eb_29_30, jx_ns_r, jx_ns_n, jx_ns_q, jx_ns_i, jx_gl_0, jx_gl_s, if_true, if_false, ite_true, ite_false, eq_self, Bool.false_eq_true, List.length_cons, List.length_nil, Nat.zero_le, Nat.reduceAdd, Nat.reduceSub, Nat.reduceLeDiff, Nat.reduceLT, Nat.reduceEqDiff, Int.reduceToNat, reduceIte, xe_aload, jx_rv_r, jx_rv_n, jx_rv_q, xk_iload, jx_iv_i, ak_I, xe_inv1, jx_cc_i, jx_cc_v, Nat.reduceMod, Nat.reduceDiv, jx_cl9_i, xe_ifeq, xe_i2l, xe_lconst, xl_1, xl_8, xe_sta3, xl_0, xe_ifne, xe_goto_w, xe_iconst, xi_m1, xe_ireturn, xk_getf, jx_gf_i, jx_ov_s, ak_V, xe_pop, jx_2_i, jx_2_l, jx_2_r, jx_2_n, jx_2_q, or_self, xe_istore, xi_0, xx_0, xi_1, xx_1, xe_ishl, xe_icmp_ge, xe_icmp_eq, xe_sta1, xe_icmp_lt, xe_goto, xe_inv3, xk_iinc, ak_C, jx_s1, List.set_cons_zero, List.set_cons_succ, jx_2_u, jx_2_s, jx_k_i, jx_k_l, jx_k_r, jx_k_n, jx_k_u, jx_k_s, jx_k_q, sw_r, sw_f, sw_s, sw_wo, sw_ro, sw_rp, sw_woo, sw_wor, sw_wpo, sw_wpr, cq_f, cq_s, va_up_s, va_rf_s, va_rf_n, sc_isThing1, q1]
theorem sp_2n {n : Nat} (h : n ≤ 8) : (1 : Int32) <<< (nI n &&& 31) = nI (2 ^ n) := by
  rcases (by omega : n = 0 ∨ n = 1 ∨ n = 2 ∨ n = 3 ∨ n = 4 ∨ n = 5 ∨ n = 6 ∨ n = 7 ∨ n = 8) with r | r | r | r | r | r | r | r | r <;> subst r <;> decide
theorem sp_2b {n : Nat} (h : n ≤ 8) : 1 ≤ 2 ^ n ∧ 2 ^ n ≤ 256 := by
  rcases (by omega : n = 0 ∨ n = 1 ∨ n = 2 ∨ n = 3 ∨ n = 4 ∨ n = 5 ∨ n = 6 ∨ n = 7 ∨ n = 8) with r | r | r | r | r | r | r | r | r <;> subst r <;> decide
theorem sc_spare (iv : cq_iv s a day tm pm now) (hn : now ≤ 999) (ht : t < tm) (h1n : 1 ≤ n) (h8 : n ≤ 8) (hk : 0 ≤ k.toInt64 ∧ k.toInt64 ≤ 1) (hlo : sp_lo F ru lo) (hL : sp_lw (D + 2) h lo Lo) :
    ∃ p', jx_cr (d + D + 8) 29 [.ref 48, .int (nI t), .int (nI n), .int k] (sw h (some 49) F (s, a, w) (ps, pa, pw) q z T x ru im tp R) = some (.inl (some (.int (if k = 0 then cq_bc (sp_bst (fun m => sp_spd Lo (nI t) (nI m) n 0 (s, a)) (2 ^ n)) else sp_bst (fun m => sp_spd Lo (nI t) (nI m) n 0 (s, a)) (2 ^ n)))), sw h (some 49) F (s, a, w) p' q z T x ru im tp R) := by
  have t6 := iv.2.2.2.2.1; have p6 := iv.2.2.2.2.2.2.1; have es := iv.2.2.2.2.2.1; have et := iv.2.2.2.1; have d12 := iv.2.2.1; have d1 := iv.2.1
  have hth := sp_q ht (by omega) et
  have hq1 : 1 ≤ (nI n).toInt64 ∧ (nI n).toInt64 ≤ 8 := sp_rg (a := 1) (b := 8) h1n h8 (by omega)
  have b2 := sp_2b h8
  have bc := fun (d : Nat) (v : Int32) (H : jx_H) => cq_bitCount (d := d) (x := v) (h := H)
  generalize eP : (fun m => sp_spd Lo (nI t) (nI m) n 0 (s, a)) = P
  have key := jx_lp (d := d + D + 7) (y := 29) (L := 50) (n := 2 ^ n) (γ := cq_C) (ls := fun m _ => [.ref 48, .int (nI t), .int (nI n), .int k, .int (sp_bst P m), .int (nI m)]) (H := fun _ g => (sw h (some 49) F (s, a, w) g q z T x ru im tp R))
    (I := fun m g => sp_bs tm pm day s g.1 a g.2.1)
    (G := fun r => ∃ p', r = some (.inl (some (.int (if k = 0 then cq_bc (sp_bst P (2 ^ n)) else sp_bst P (2 ^ n)))), sw h (some 49) F (s, a, w) p' q z T x ru im tp R)) ?_ ?_ (2 ^ n) 0 (s, sp_cp a pa, pw) (by omega) (sp_bs_cp t6 p6 d12)
  · obtain ⟨p', e⟩ := key
    refine ⟨p', ?_⟩
    simp only [nI_0, sp_bst] at e
    simp only [cr_29, eb_29_0, eb_29_32, jx_ns_r, jx_ns_n, jx_ns_q, jx_ns_i, jx_gl_0, jx_gl_s, if_true, if_false, ite_true, ite_false, eq_self, Bool.false_eq_true, List.length_cons, List.length_nil, Nat.zero_le, Nat.reduceAdd, Nat.reduceSub, Nat.reduceLeDiff, Nat.reduceLT, Nat.reduceEqDiff, Int.reduceToNat, reduceIte, xe_aload, jx_rv_r, jx_rv_n, jx_rv_q, xk_iload, jx_iv_i, ak_I, xe_inv1, jx_cc_i, jx_cc_v, Nat.reduceMod, Nat.reduceDiv, jx_cl9_i, xe_ifeq, xe_i2l, xe_lconst, xl_1, xl_8, xe_sta3, xl_0, xe_ifne, xe_goto_w, xe_iconst, xi_m1, xe_ireturn, xk_getf, jx_gf_i, jx_ov_s, ak_V, xe_pop, jx_2_i, jx_2_l, jx_2_r, jx_2_n, jx_2_q, or_self, xe_istore, xi_0, xx_0, xi_1, xx_1, xe_ishl, xe_icmp_ge, xe_icmp_eq, xe_sta1, xe_icmp_lt, xe_goto, xe_inv3, xk_iinc, ak_C, jx_s1, List.set_cons_zero, List.set_cons_succ, jx_2_u, jx_2_s, jx_k_i, jx_k_l, jx_k_r, jx_k_n, jx_k_u, jx_k_s, jx_k_q, sw_r, sw_f, sw_s, sw_wo, sw_ro, sw_rp, sw_woo, sw_wor, sw_wpo, sw_wpr, cq_f, cq_s, va_up_s, va_rf_s, va_rf_n, sc_isThing1, cq_inL, hth, hq1, hk, and_self, sp_10, sp_copy]
    exact e
  · rintro m ⟨ps, pa, pw⟩ hm hb
    have h3 : ¬ nI (2 ^ n) ≤ nI m := nI_ge hm (by omega)
    by_cases r1 : sp_bst P m = -1
    · obtain ⟨g, hg, e1⟩ := sp_isSpared (u := 0) (d := d) (F := F) (w := w) (q := q) (z := z) (T := T) (x := x) (im := im) (tp := tp) (R := R) (pw := pw) (i := nI t) (set := nI m) iv hn (show n ≤ 60 by omega) hlo hL hb
      refine .inr ⟨g, hg, ?_⟩
      have eP := congrFun eP m
      rw [eP] at e1
      rw [eb_29_50]
      by_cases r2 : P m = true <;> simp only [eb_29_80, eb_29_95, jx_ns_r, jx_ns_n, jx_ns_q, jx_ns_i, jx_gl_0, jx_gl_s, if_true, if_false, ite_true, ite_false, eq_self, Bool.false_eq_true, List.length_cons, List.length_nil, Nat.zero_le, Nat.reduceAdd, Nat.reduceSub, Nat.reduceLeDiff, Nat.reduceLT, Nat.reduceEqDiff, Int.reduceToNat, reduceIte, xe_aload, jx_rv_r, jx_rv_n, jx_rv_q, xk_iload, jx_iv_i, ak_I, xe_inv1, jx_cc_i, jx_cc_v, Nat.reduceMod, Nat.reduceDiv, jx_cl9_i, xe_ifeq, xe_i2l, xe_lconst, xl_1, xl_8, xe_sta3, xl_0, xe_ifne, xe_goto_w, xe_iconst, xi_m1, xe_ireturn, xk_getf, jx_gf_i, jx_ov_s, ak_V, xe_pop, jx_2_i, jx_2_l, jx_2_r, jx_2_n, jx_2_q, or_self, xe_istore, xi_0, xx_0, xi_1, xx_1, xe_ishl, xe_icmp_ge, xe_icmp_eq, xe_sta1, xe_icmp_lt, xe_goto, xe_inv3, xk_iinc, ak_C, jx_s1, List.set_cons_zero, List.set_cons_succ, jx_2_u, jx_2_s, jx_k_i, jx_k_l, jx_k_r, jx_k_n, jx_k_u, jx_k_s, jx_k_q, sw_r, sw_f, sw_s, sw_wo, sw_ro, sw_rp, sw_woo, sw_wor, sw_wpo, sw_wpr, cq_f, cq_s, va_up_s, va_rf_s, va_rf_n, sp_2n h8, h3, r1, r2, e1, nI_1, sp_bst, sp_10, not_true, false_and]
    · by_cases r3 : cq_bc (sp_bst P m) ≤ cq_bc (nI m)
      · have r4 : ¬ cq_bc (nI m) < cq_bc (sp_bst P m) := Int32.not_lt.mpr r3
        refine .inr ⟨(ps, pa, pw), hb, ?_⟩
        rw [eb_29_50]
        simp only [eb_29_95, jx_ns_r, jx_ns_n, jx_ns_q, jx_ns_i, jx_gl_0, jx_gl_s, if_true, if_false, ite_true, ite_false, eq_self, Bool.false_eq_true, List.length_cons, List.length_nil, Nat.zero_le, Nat.reduceAdd, Nat.reduceSub, Nat.reduceLeDiff, Nat.reduceLT, Nat.reduceEqDiff, Int.reduceToNat, reduceIte, xe_aload, jx_rv_r, jx_rv_n, jx_rv_q, xk_iload, jx_iv_i, ak_I, xe_inv1, jx_cc_i, jx_cc_v, Nat.reduceMod, Nat.reduceDiv, jx_cl9_i, xe_ifeq, xe_i2l, xe_lconst, xl_1, xl_8, xe_sta3, xl_0, xe_ifne, xe_goto_w, xe_iconst, xi_m1, xe_ireturn, xk_getf, jx_gf_i, jx_ov_s, ak_V, xe_pop, jx_2_i, jx_2_l, jx_2_r, jx_2_n, jx_2_q, or_self, xe_istore, xi_0, xx_0, xi_1, xx_1, xe_ishl, xe_icmp_ge, xe_icmp_eq, xe_sta1, xe_icmp_lt, xe_goto, xe_inv3, xk_iinc, ak_C, jx_s1, List.set_cons_zero, List.set_cons_succ, jx_2_u, jx_2_s, jx_k_i, jx_k_l, jx_k_r, jx_k_n, jx_k_u, jx_k_s, jx_k_q, sw_r, sw_f, sw_s, sw_wo, sw_ro, sw_rp, sw_woo, sw_wor, sw_wpo, sw_wpr, cq_f, cq_s, va_up_s, va_rf_s, va_rf_n, sp_2n h8, h3, r1, r3, r4, bc, nI_1, sp_bst, not_false_eq_true, and_self]
      · have r4 : cq_bc (nI m) < cq_bc (sp_bst P m) := Int32.not_le.mp r3
        obtain ⟨g, hg, e1⟩ := sp_isSpared (u := 0) (d := d) (F := F) (w := w) (q := q) (z := z) (T := T) (x := x) (im := im) (tp := tp) (R := R) (pw := pw) (i := nI t) (set := nI m) iv hn (show n ≤ 60 by omega) hlo hL hb
        refine .inr ⟨g, hg, ?_⟩
        have eP := congrFun eP m
        rw [eP] at e1
        rw [eb_29_50]
        by_cases r2 : P m = true <;> simp only [eb_29_80, eb_29_95, jx_ns_r, jx_ns_n, jx_ns_q, jx_ns_i, jx_gl_0, jx_gl_s, if_true, if_false, ite_true, ite_false, eq_self, Bool.false_eq_true, List.length_cons, List.length_nil, Nat.zero_le, Nat.reduceAdd, Nat.reduceSub, Nat.reduceLeDiff, Nat.reduceLT, Nat.reduceEqDiff, Int.reduceToNat, reduceIte, xe_aload, jx_rv_r, jx_rv_n, jx_rv_q, xk_iload, jx_iv_i, ak_I, xe_inv1, jx_cc_i, jx_cc_v, Nat.reduceMod, Nat.reduceDiv, jx_cl9_i, xe_ifeq, xe_i2l, xe_lconst, xl_1, xl_8, xe_sta3, xl_0, xe_ifne, xe_goto_w, xe_iconst, xi_m1, xe_ireturn, xk_getf, jx_gf_i, jx_ov_s, ak_V, xe_pop, jx_2_i, jx_2_l, jx_2_r, jx_2_n, jx_2_q, or_self, xe_istore, xi_0, xx_0, xi_1, xx_1, xe_ishl, xe_icmp_ge, xe_icmp_eq, xe_sta1, xe_icmp_lt, xe_goto, xe_inv3, xk_iinc, ak_C, jx_s1, List.set_cons_zero, List.set_cons_succ, jx_2_u, jx_2_s, jx_k_i, jx_k_l, jx_k_r, jx_k_n, jx_k_u, jx_k_s, jx_k_q, sw_r, sw_f, sw_s, sw_wo, sw_ro, sw_rp, sw_woo, sw_wor, sw_wpo, sw_wpr, cq_f, cq_s, va_up_s, va_rf_s, va_rf_n, sp_2n h8, h3, r1, r2, r3, r4, bc, e1, nI_1, sp_bst, sp_10, not_false_eq_true, and_false]
  · rintro ⟨ps, pa, pw⟩ hb
    refine ⟨(ps, pa, pw), ?_⟩
    have h3 : nI (2 ^ n) ≤ nI (2 ^ n) := (nI_leI (by omega) (by omega)).mpr (Nat.le_refl _)
    by_cases r : k = 0 <;> simp only [eb_29_50, eb_29_101, eb_29_113, eb_29_115, jx_ns_r, jx_ns_n, jx_ns_q, jx_ns_i, jx_gl_0, jx_gl_s, if_true, if_false, ite_true, ite_false, eq_self, Bool.false_eq_true, List.length_cons, List.length_nil, Nat.zero_le, Nat.reduceAdd, Nat.reduceSub, Nat.reduceLeDiff, Nat.reduceLT, Nat.reduceEqDiff, Int.reduceToNat, reduceIte, xe_aload, jx_rv_r, jx_rv_n, jx_rv_q, xk_iload, jx_iv_i, ak_I, xe_inv1, jx_cc_i, jx_cc_v, Nat.reduceMod, Nat.reduceDiv, jx_cl9_i, xe_ifeq, xe_i2l, xe_lconst, xl_1, xl_8, xe_sta3, xl_0, xe_ifne, xe_goto_w, xe_iconst, xi_m1, xe_ireturn, xk_getf, jx_gf_i, jx_ov_s, ak_V, xe_pop, jx_2_i, jx_2_l, jx_2_r, jx_2_n, jx_2_q, or_self, xe_istore, xi_0, xx_0, xi_1, xx_1, xe_ishl, xe_icmp_ge, xe_icmp_eq, xe_sta1, xe_icmp_lt, xe_goto, xe_inv3, xk_iinc, ak_C, jx_s1, List.set_cons_zero, List.set_cons_succ, jx_2_u, jx_2_s, jx_k_i, jx_k_l, jx_k_r, jx_k_n, jx_k_u, jx_k_s, jx_k_q, sp_2n h8, h3, r, bc]
end SN
