/-! TEXTS: facts -/
set_option maxRecDepth 100000
section SDK
variable {d : Nat} {h : jx_H} {cu : Option Nat} {F : Nat → Int32} {o p q z : cq_C} {T : List Value} {x : Int32 × Int32} {ru im : Nat → Option Nat} {tp : Nat → Int32} {R : Nat → Nat → Int32} {s : Nat → Int32} {a : Nat → Nat → Int32} {w : Nat → Int64}
variable {t M : Nat} {u' : Int32}
theorem T_fact (hT : T.length = 6) (ht : 151 ≤ t) (eM : F 9 = nI M) (hM : M ≤ 400) : ∀ f, f ≤ 10 → (∀ d h n g x, t < h.2.1 → ss_ok h → n ≤ M → g ≤ 60 → (∀ k pl, fct tp M (f + 1) n g = .inl (k, pl) → (k ≤ 4 ∧ pl ≤ M) ∧ ∃ h1 n2 e2 g2, ex h h1 (M - n) ∧ jx_cr (d + (3 * f + 3) + 11) 217 [.ref t] (sw (tx h t (nI n) (nI (10 - f)) (nI g) u') cu F o p q z T x ru im tp R) = some (.inr (), sw (tx h1 t n2 e2 g2 u') cu F o p q z T (nI k, nI pl) ru im tp R)) ∧ (∀ L m g2, fct tp M (f + 1) n g = .inr (L, m, g2) → (n < m ∧ m ≤ M ∧ g ≤ g2 ∧ g2 ≤ 60) ∧ ∃ h1 r, ex h h1 (m - n) ∧ dt h1 h.2.1 h1.2.1 r L ∧ jx_cr (d + (3 * f + 3) + 11) 217 [.ref t] (sw (tx h t (nI n) (nI (10 - f)) (nI g) u') cu F o p q z T x ru im tp R) = some (.inl (some (.ref r)), sw (tx h1 t (nI m) (nI (10 - f)) (nI g2) u') cu F o p q z T x ru im tp R))) := by
  intro f
  induction f with
  | zero =>
    intro hf d h n g x hth hs hn hg
    have t3 : 3 ≤ t := by omega
    have s1 := fun d => T_see (d := d) (n := n) (h := h) (x := x) (cu := cu) (F := F) (o := o) (p := p) (q := q) (z := z) (T := T) (ru := ru) (im := im) (tp := tp) (R := R) (u' := u') (e' := nI (10 - 0)) (g' := nI g) ht eM hM hn
    have le := skp_le (tp := tp) hn
    have ge := skp_ge tp M n
    have ii := skp_i (tp := tp) hn
    rw [fct]
    generalize skp tp M n = m at le ge ii s1 ⊢
    have s2 := fun d => T_isWord (d := d) (i := 19) (n := m) (h := h) (x := x) (cu := cu) (F := F) (o := o) (p := p) (q := q) (z := z) (T := T) (ru := ru) (im := im) (tp := tp) (R := R) (u' := u') (e' := nI (10 - 0)) (g' := nI g) hs (by omega) ht eM hM le
    rw [ii] at s2
    have o0 := fun (d : Nat) => T_opens0 (d := d) (h := h) (x := x) (cu := cu) (F := F) (o := o) (p := p) (q := q) (z := z) (T := T) (ru := ru) (im := im) (tp := tp) (R := R) (u' := u') (v := nI m) (n' := nI m) (g' := nI g) hT ht
    have k2 : nI 2 = 2 := rfl
    have k10 : 10 - 0 = 10 := rfl
    show (∀ k pl, _ → _ ∧ ∃ h1 n2 e2 g2, ex h h1 (M - n) ∧ jx_cr (d + 3 + 11) 217 _ _ = _) ∧ _
    by_cases hw : wm tp M m 19
    · rw [if_pos (wmb_i.mpr hw), if_pos rfl]
      rw [sp_bl_t hw] at s2
      refine ⟨fun k pl hk => ?_, fun L2 m2 g2 hk => (by cases hk)⟩
      cases hk
      refine ⟨⟨by omega, le⟩, h, nI m, nI 10, nI g, ex_le ex_refl (by omega), ?_⟩
      simp only [cr_217, eb_217_0, jx_ns_r, jx_ns_n, jx_ns_q, jx_ns_i, jx_gl_0, jx_gl_s, if_true, if_false, ite_true, ite_false, eq_self, Bool.false_eq_true, List.length_cons, List.length_nil, Nat.zero_le, Nat.reduceAdd, Nat.reduceSub, Nat.reduceLeDiff, Nat.reduceLT, Nat.reduceEqDiff, Int.reduceToNat, reduceIte, xe_aload, jx_rv_r, jx_rv_n, jx_rv_q, xe_inv0, jx_cc_i, jx_cc_v, Nat.reduceMod, Nat.reduceDiv, jx_cl9_i, xe_istore, xk_getf, jx_gf_i, jx_ov_s, ak_V, xe_ldc, xe_inv1, xe_ifeq, xk_iload, jx_iv_i, ak_I, xe_dup, jx_2_i, jx_2_l, jx_2_r, jx_2_n, jx_2_q, or_self, xe_iconst, xi_3, xx_3, xe_iadd, xk_putf, ak_P, jx_pf_i, jx_pf_z, jx_pf_l, jx_pf_r, jx_pf_n, jx_pf_q, xe_new, xe_spc1, xe_astore, xi_1, xx_1, xe_isub, xe_areturn_n, xe_areturn_r, xi_91, xe_icmp_ne, xi_93, xi_0, xx_0, xe_inv3, xe_pop, xe_spc3, jx_s1, List.set_cons_zero, List.set_cons_succ, jx_2_u, jx_2_s, jx_k_i, jx_k_l, jx_k_r, jx_k_n, jx_k_u, jx_k_s, jx_k_q, tx_r ht, sw_r, sw_f, tx_f, tx_s, s1, s2, sp_10, k10, o0, k2, jx_cc_x xh_217]
    · rw [if_neg (mt wmb_i.mp hw)]
      rw [sp_bl_f hw] at s2
      by_cases hc : sg tp M m = 91
      · rw [if_pos hc, if_pos rfl]
        refine ⟨fun k pl hk => ?_, fun L2 m2 g2 hk => (by cases hk)⟩
        cases hk
        refine ⟨⟨by omega, le⟩, h, nI m, nI 10, nI g, ex_le ex_refl (by omega), ?_⟩
        simp only [cr_217, eb_217_0, eb_217_58, jx_ns_r, jx_ns_n, jx_ns_q, jx_ns_i, jx_gl_0, jx_gl_s, if_true, if_false, ite_true, ite_false, eq_self, Bool.false_eq_true, List.length_cons, List.length_nil, Nat.zero_le, Nat.reduceAdd, Nat.reduceSub, Nat.reduceLeDiff, Nat.reduceLT, Nat.reduceEqDiff, Int.reduceToNat, reduceIte, xe_aload, jx_rv_r, jx_rv_n, jx_rv_q, xe_inv0, jx_cc_i, jx_cc_v, Nat.reduceMod, Nat.reduceDiv, jx_cl9_i, xe_istore, xk_getf, jx_gf_i, jx_ov_s, ak_V, xe_ldc, xe_inv1, xe_ifeq, xk_iload, jx_iv_i, ak_I, xe_dup, jx_2_i, jx_2_l, jx_2_r, jx_2_n, jx_2_q, or_self, xe_iconst, xi_3, xx_3, xe_iadd, xk_putf, ak_P, jx_pf_i, jx_pf_z, jx_pf_l, jx_pf_r, jx_pf_n, jx_pf_q, xe_new, xe_spc1, xe_astore, xi_1, xx_1, xe_isub, xe_areturn_n, xe_areturn_r, xi_91, xe_icmp_ne, xi_93, xi_0, xx_0, xe_inv3, xe_pop, xe_spc3, jx_s1, List.set_cons_zero, List.set_cons_succ, jx_2_u, jx_2_s, jx_k_i, jx_k_l, jx_k_r, jx_k_n, jx_k_u, jx_k_s, jx_k_q, tx_r ht, sw_r, sw_f, tx_f, tx_s, s1, s2, hc, k10, o0, k2, jx_cc_x xh_217]
      · rw [if_neg hc]
        have cm := T_cmp (e := 10 - 0) (cu := cu) (F := F) (o := o) (p := p) (q := q) (z := z) (T := T) (ru := ru) (im := im) (tp := tp) (R := R) (u' := u') (t := t) hT ht eM hM d h m g x (sg tp M m) (nI m) hth hs le hg
        have st : jx_cr (d + 3 + 11) 217 [.ref t] (sw (tx h t (nI n) (nI (10 - 0)) (nI g) u') cu F o p q z T x ru im tp R) = jx_eb (d + 13) 217 111 [.ref t, .int (sg tp M m), .int (nI m), jx_un, jx_un, jx_un] [] (sw (tx h t (nI m) (nI (10 - 0)) (nI g) u') cu F o p q z T x ru im tp R) := by
          simp only [cr_217, eb_217_0, eb_217_58, jx_ns_r, jx_ns_n, jx_ns_q, jx_ns_i, jx_gl_0, jx_gl_s, if_true, if_false, ite_true, ite_false, eq_self, Bool.false_eq_true, List.length_cons, List.length_nil, Nat.zero_le, Nat.reduceAdd, Nat.reduceSub, Nat.reduceLeDiff, Nat.reduceLT, Nat.reduceEqDiff, Int.reduceToNat, reduceIte, xe_aload, jx_rv_r, jx_rv_n, jx_rv_q, xe_inv0, jx_cc_i, jx_cc_v, Nat.reduceMod, Nat.reduceDiv, jx_cl9_i, xe_istore, xk_getf, jx_gf_i, jx_ov_s, ak_V, xe_ldc, xe_inv1, xe_ifeq, xk_iload, jx_iv_i, ak_I, xe_dup, jx_2_i, jx_2_l, jx_2_r, jx_2_n, jx_2_q, or_self, xe_iconst, xi_3, xx_3, xe_iadd, xk_putf, ak_P, jx_pf_i, jx_pf_z, jx_pf_l, jx_pf_r, jx_pf_n, jx_pf_q, xe_new, xe_spc1, xe_astore, xi_1, xx_1, xe_isub, xe_areturn_n, xe_areturn_r, xi_91, xe_icmp_ne, xi_93, xi_0, xx_0, xe_inv3, xe_pop, xe_spc3, jx_s1, List.set_cons_zero, List.set_cons_succ, jx_2_u, jx_2_s, jx_k_i, jx_k_l, jx_k_r, jx_k_n, jx_k_u, jx_k_s, jx_k_q, tx_r ht, sw_r, sw_f, tx_f, tx_s, s1, s2, hc]
        refine ⟨fun k pl hk => ?_, fun L2 m2 g2 hk => ?_⟩
        · obtain ⟨b1, h2, n2, e2, g2, b5, b6⟩ := cm.1 k pl hk
          exact ⟨b1, h2, n2, e2, g2, ex_le b5 (by omega), st.trans b6⟩
        · obtain ⟨⟨y1, y2, y3, y4⟩, h2, r2, b5, b6, b7⟩ := cm.2 L2 m2 g2 hk
          exact ⟨⟨by omega, y2, by omega, y4⟩, h2, r2, ex_le b5 (by omega), b6, st.trans b7⟩
  | succ f ih =>
    intro hf d h n g x hth hs hn hg
    have t3 : 3 ≤ t := by omega
    have HI := ih (by omega)
    have HT := T_tested (e := 10 - f) (D := 3 * f + 3) (cu := cu) (F := F) (o := o) (p := p) (q := q) (z := z) (T := T) (ru := ru) (im := im) (tp := tp) (R := R) (u' := u') (t := t) hT ht eM hM (T_parted (e := 10 - f) (D := 3 * f + 3) (cu := cu) (F := F) (o := o) (p := p) (q := q) (z := z) (T := T) (ru := ru) (im := im) (tp := tp) (R := R) (u' := u') (t := t) hT ht eM hM HI)
    have s1 := fun d => T_see (d := d) (n := n) (h := h) (x := x) (cu := cu) (F := F) (o := o) (p := p) (q := q) (z := z) (T := T) (ru := ru) (im := im) (tp := tp) (R := R) (u' := u') (e' := nI (10 - (f + 1))) (g' := nI g) ht eM hM hn
    have le := skp_le (tp := tp) hn
    have ge := skp_ge tp M n
    have ii := skp_i (tp := tp) hn
    rw [fct]
    generalize skp tp M n = m at le ge ii s1 ⊢
    have s2 := fun d => T_isWord (d := d) (i := 19) (n := m) (h := h) (x := x) (cu := cu) (F := F) (o := o) (p := p) (q := q) (z := z) (T := T) (ru := ru) (im := im) (tp := tp) (R := R) (u' := u') (e' := nI (10 - (f + 1))) (g' := nI g) hs (by omega) ht eM hM le
    rw [ii] at s2
    have o1 := fun (d : Nat) (v : Int32) => T_opens1 (d := d) (e := 10 - (f + 1)) (h := h) (x := x) (cu := cu) (F := F) (o := o) (p := p) (q := q) (z := z) (T := T) (ru := ru) (im := im) (tp := tp) (R := R) (u' := u') (v := v) (n' := nI m) (g' := nI g) ht (by omega)
    have k1 : 10 - (f + 1) + 1 = 10 - f := by omega
    have km : nI (10 - f) - 1 = nI (10 - (f + 1)) := by rw [show (1 : Int32) = nI 1 from rfl, pk_sub (by omega), show 10 - f - 1 = 10 - (f + 1) by omega]
    rw [k1] at o1
    have k3 : nI 3 = 3 := rfl
    have ed : d + (3 * (f + 1) + 3) + 11 = d + (3 * f + 3) + 13 + 1 := by omega
    rw [ed]
    by_cases hw : wm tp M m 19
    · rw [if_pos (wmb_i.mpr hw), if_neg (by omega)]
      rw [sp_bl_t hw] at s2
      have wl := wm_le le hw
      have sn : st_n 19 = 3 := rfl
      have vv := HI (d + 2) (jx_new h (.inr (12, jx_nf 12)) (jx_nf 12).length) (m + 3) g x (by rw [jx_new_sz]; show t < h.2.1 + 1; omega) (ex_ss (ex_new (c := 1) ex_refl rfl (by rw [nf_1.2.2.2.1]; show 1 ≤ 16; omega) (Nat.le_refl _)) (by omega) hs) (by omega) hg
      rw [show d + 2 + (3 * f + 3) + 11 = d + (3 * f + 3) + 13 by omega] at vv
      have e0 : ex h (jx_new h (.inr (12, jx_nf 12)) (jx_nf 12).length) 1 := ex_new ex_refl rfl (by rw [nf_1.2.2.2.1]; show 1 ≤ 16; omega) (Nat.le_refl _)
      have nw := txw_new (h := h) (x := x) (cu := cu) (F := F) (o := o) (p := p) (q := q) (z := z) (T := T) (ru := ru) (im := im) (tp := tp) (R := R) (u' := u') (t := t) (n' := nI (m + 3)) (e' := nI (10 - f)) (g' := nI g) (y := .inr (12, jx_nf 12)) (c := (jx_nf 12).length) (by omega) (by omega)
      have hr3 : 3 ≤ h.2.1 := by omega
      have n3 : nI m + 3 = nI (m + 3) := by rw [← k3, nI_add]
      cases hV : fct tp M (f + 1) (m + 3) g with
      | inl er =>
        refine ⟨fun k pl hk => ?_, fun L2 m2 g2 hk => (by cases hk)⟩
        cases hk
        obtain ⟨b1, h1, n2, e2, g2, b2, b3⟩ := vv.1 k pl hV
        refine ⟨b1, h1, n2, e2, g2, ex_tr e0 b2 (by omega), ?_⟩
        simp only [cr_217, eb_217_0, jx_ns_r, jx_ns_n, jx_ns_q, jx_ns_i, jx_gl_0, jx_gl_s, if_true, if_false, ite_true, ite_false, eq_self, Bool.false_eq_true, List.length_cons, List.length_nil, Nat.zero_le, Nat.reduceAdd, Nat.reduceSub, Nat.reduceLeDiff, Nat.reduceLT, Nat.reduceEqDiff, Int.reduceToNat, reduceIte, xe_aload, jx_rv_r, jx_rv_n, jx_rv_q, xe_inv0, jx_cc_i, jx_cc_v, Nat.reduceMod, Nat.reduceDiv, jx_cl9_i, xe_istore, xk_getf, jx_gf_i, jx_ov_s, ak_V, xe_ldc, xe_inv1, xe_ifeq, xk_iload, jx_iv_i, ak_I, xe_dup, jx_2_i, jx_2_l, jx_2_r, jx_2_n, jx_2_q, or_self, xe_iconst, xi_3, xx_3, xe_iadd, xk_putf, ak_P, jx_pf_i, jx_pf_z, jx_pf_l, jx_pf_r, jx_pf_n, jx_pf_q, xe_new, xe_spc1, xe_astore, xi_1, xx_1, xe_isub, xe_areturn_n, xe_areturn_r, xi_91, xe_icmp_ne, xi_93, xi_0, xx_0, xe_inv3, xe_pop, xe_spc3, jx_s1, List.set_cons_zero, List.set_cons_succ, jx_2_u, jx_2_s, jx_k_i, jx_k_l, jx_k_r, jx_k_n, jx_k_u, jx_k_s, jx_k_q, tx_r ht, tx_w ht, sw_r, sw_f, tx_f, tx_s, s1, s2, sp_10, o1, n3, nw, hr3, txw_sz, b3, jx_cc_x xh_217]
      | inr X =>
        obtain ⟨L1, m1, g1⟩ := X
        obtain ⟨⟨c1, c2, c3, c4⟩, h1, r1, b2, b3, b4⟩ := vv.2 L1 m1 g1 hV
        refine ⟨fun k pl hk => (by cases hk), fun L3 m4 g4 hk => ?_⟩
        cases hk
        have hb2 : h.2.1 + 1 ≤ h1.2.1 := b2.1.1
        have l1 := b3.1
        have r13 : 3 ≤ r1 := by omega
        have pd : dt (jx_put h1 h.2.1 (.inr (12, [.ref r1]))) h.2.1 h1.2.1 h.2.1 (fun w => !L1 w) := dt_not (dt_mono b3 (by omega) (Nat.le_refl _) (Nat.le_refl _) (fun j j1 j2 => by have j3 : h.2.1 + 1 ≤ j := j1; rw [jx_put_at, if_neg (by omega)])) hr3 (by rw [jx_put_at, if_pos rfl])
        have pi := Not_init (d := d + (3 * f + 3) + 11) (r := h.2.1) (r1 := r1) (H := (sw (tx h1 t (nI m1) (nI (10 - f)) (nI g1) u') cu F o p q z T x ru im tp R)) hr3 r13 (by rw [txw_at (by omega) (by omega), b2.2.2.1 _ (by show h.2.1 < h.2.1 + 1; omega), jx_new_at, if_pos rfl])
        rw [txw_put (by omega) (by omega)] at pi
        refine ⟨⟨by omega, c2, by omega, c4⟩, _, h.2.1, ex_put (ex_tr e0 b2 (by omega)) rfl (Nat.le_refl _), pd, ?_⟩
        simp only [cr_217, eb_217_0, jx_ns_r, jx_ns_n, jx_ns_q, jx_ns_i, jx_gl_0, jx_gl_s, if_true, if_false, ite_true, ite_false, eq_self, Bool.false_eq_true, List.length_cons, List.length_nil, Nat.zero_le, Nat.reduceAdd, Nat.reduceSub, Nat.reduceLeDiff, Nat.reduceLT, Nat.reduceEqDiff, Int.reduceToNat, reduceIte, xe_aload, jx_rv_r, jx_rv_n, jx_rv_q, xe_inv0, jx_cc_i, jx_cc_v, Nat.reduceMod, Nat.reduceDiv, jx_cl9_i, xe_istore, xk_getf, jx_gf_i, jx_ov_s, ak_V, xe_ldc, xe_inv1, xe_ifeq, xk_iload, jx_iv_i, ak_I, xe_dup, jx_2_i, jx_2_l, jx_2_r, jx_2_n, jx_2_q, or_self, xe_iconst, xi_3, xx_3, xe_iadd, xk_putf, ak_P, jx_pf_i, jx_pf_z, jx_pf_l, jx_pf_r, jx_pf_n, jx_pf_q, xe_new, xe_spc1, xe_astore, xi_1, xx_1, xe_isub, xe_areturn_n, xe_areturn_r, xi_91, xe_icmp_ne, xi_93, xi_0, xx_0, xe_inv3, xe_pop, xe_spc3, jx_s1, List.set_cons_zero, List.set_cons_succ, jx_2_u, jx_2_s, jx_k_i, jx_k_l, jx_k_r, jx_k_n, jx_k_u, jx_k_s, jx_k_q, tx_r ht, tx_w ht, sw_r, sw_f, tx_f, tx_s, s1, s2, sp_10, o1, n3, nw, hr3, txw_sz, b4, r13, pi, km]
    · rw [if_neg (mt wmb_i.mp hw)]
      rw [sp_bl_f hw] at s2
      by_cases hc : sg tp M m = 91
      · have mM : m < M := sg_lt (fun z => by rw [z] at hc; exact absurd hc (by decide))
        rw [if_pos hc, if_neg (by omega)]
        have vv := HT d h (m + 1) g x hth hs (by omega) hg
        cases hV : tst tp M (fct tp M (f + 1)) (m + 1) g with
        | inl er =>
          refine ⟨fun k pl hk => ?_, fun L2 m2 g2 hk => (by cases hk)⟩
          cases hk
          obtain ⟨b1, h1, n2, e2, g2, b2, b3⟩ := vv.1 k pl hV
          have b4 : jx_cr (d + (3 * f + 3) + 13) 215 [.ref t] (sw (tx h t (nI (m + 1)) (nI (10 - f)) (nI g) u') cu F o p q z T x ru im tp R) = _ := b3
          refine ⟨b1, h1, n2, e2, g2, ex_le b2 (by omega), ?_⟩
          simp only [cr_217, eb_217_0, eb_217_58, jx_ns_r, jx_ns_n, jx_ns_q, jx_ns_i, jx_gl_0, jx_gl_s, if_true, if_false, ite_true, ite_false, eq_self, Bool.false_eq_true, List.length_cons, List.length_nil, Nat.zero_le, Nat.reduceAdd, Nat.reduceSub, Nat.reduceLeDiff, Nat.reduceLT, Nat.reduceEqDiff, Int.reduceToNat, reduceIte, xe_aload, jx_rv_r, jx_rv_n, jx_rv_q, xe_inv0, jx_cc_i, jx_cc_v, Nat.reduceMod, Nat.reduceDiv, jx_cl9_i, xe_istore, xk_getf, jx_gf_i, jx_ov_s, ak_V, xe_ldc, xe_inv1, xe_ifeq, xk_iload, jx_iv_i, ak_I, xe_dup, jx_2_i, jx_2_l, jx_2_r, jx_2_n, jx_2_q, or_self, xe_iconst, xi_3, xx_3, xe_iadd, xk_putf, ak_P, jx_pf_i, jx_pf_z, jx_pf_l, jx_pf_r, jx_pf_n, jx_pf_q, xe_new, xe_spc1, xe_astore, xi_1, xx_1, xe_isub, xe_areturn_n, xe_areturn_r, xi_91, xe_icmp_ne, xi_93, xi_0, xx_0, xe_inv3, xe_pop, xe_spc3, jx_s1, List.set_cons_zero, List.set_cons_succ, jx_2_u, jx_2_s, jx_k_i, jx_k_l, jx_k_r, jx_k_n, jx_k_u, jx_k_s, jx_k_q, tx_r ht, tx_w ht, sw_r, sw_f, tx_f, tx_s, s1, s2, hc, o1, nI_1, b4, jx_cc_x xh_217]
        | inr X =>
          obtain ⟨L1, m1, g1⟩ := X
          obtain ⟨⟨c1, c2, c3, c4⟩, h1, r1, b2, b3, b4⟩ := vv.2 L1 m1 g1 hV
          have b5 : jx_cr (d + (3 * f + 3) + 13) 215 [.ref t] (sw (tx h t (nI (m + 1)) (nI (10 - f)) (nI g) u') cu F o p q z T x ru im tp R) = _ := b4
          have l1 := b3.1
          have r13 : 3 ≤ r1 := by omega
          have le1 := skp_le (tp := tp) c2
          have ge1 := skp_ge tp M m1
          have ts := fun d => T_takesSign (d := d) (n := m1) (v := 93) (h := h1) (x := x) (cu := cu) (F := F) (o := o) (p := p) (q := q) (z := z) (T := T) (ru := ru) (im := im) (tp := tp) (R := R) (u' := u') (e' := nI (10 - f)) (g' := nI g1) ht eM hM c2
          by_cases h93 : sg tp M (skp tp M m1) = 93
          · simp only [if_pos h93] at ts
            have m2M : (skp tp M m1) < M := sg_lt (fun z => by rw [z] at h93; exact absurd h93 (by decide))
            simp only [if_pos h93]
            refine ⟨fun k pl hk => (by cases hk), fun L3 m4 g4 hk => ?_⟩
            cases hk
            have d1 := fun (d : Nat) => T_demand1 (d := d) (h := tx h1 t (nI ((skp tp M m1) + 1)) (nI (10 - f)) (nI g1) u') (cu := cu) (F := F) (o := o) (p := p) (q := q) (z := z) (T := T) (x := x) (ru := ru) (im := im) (tp := tp) (R := R) (t := t) (l := 1) (v := 0) (n' := nI ((skp tp M m1) + 1)) (by decide)
            refine ⟨⟨by omega, by omega, by omega, c4⟩, h1, r1, ex_le b2 (by omega), b3, ?_⟩
            simp only [cr_217, eb_217_0, eb_217_58, jx_ns_r, jx_ns_n, jx_ns_q, jx_ns_i, jx_gl_0, jx_gl_s, if_true, if_false, ite_true, ite_false, eq_self, Bool.false_eq_true, List.length_cons, List.length_nil, Nat.zero_le, Nat.reduceAdd, Nat.reduceSub, Nat.reduceLeDiff, Nat.reduceLT, Nat.reduceEqDiff, Int.reduceToNat, reduceIte, xe_aload, jx_rv_r, jx_rv_n, jx_rv_q, xe_inv0, jx_cc_i, jx_cc_v, Nat.reduceMod, Nat.reduceDiv, jx_cl9_i, xe_istore, xk_getf, jx_gf_i, jx_ov_s, ak_V, xe_ldc, xe_inv1, xe_ifeq, xk_iload, jx_iv_i, ak_I, xe_dup, jx_2_i, jx_2_l, jx_2_r, jx_2_n, jx_2_q, or_self, xe_iconst, xi_3, xx_3, xe_iadd, xk_putf, ak_P, jx_pf_i, jx_pf_z, jx_pf_l, jx_pf_r, jx_pf_n, jx_pf_q, xe_new, xe_spc1, xe_astore, xi_1, xx_1, xe_isub, xe_areturn_n, xe_areturn_r, xi_91, xe_icmp_ne, xi_93, xi_0, xx_0, xe_inv3, xe_pop, xe_spc3, jx_s1, List.set_cons_zero, List.set_cons_succ, jx_2_u, jx_2_s, jx_k_i, jx_k_l, jx_k_r, jx_k_n, jx_k_u, jx_k_s, jx_k_q, tx_r ht, tx_w ht, sw_r, sw_f, tx_f, tx_s, s1, s2, hc, o1, nI_1, b5, r13, ts, d1, km]
          · simp only [if_neg h93] at ts
            simp only [if_neg h93]
            refine ⟨fun k pl hk => ?_, fun L2 m5 g2 hk => (by cases hk)⟩
            cases hk
            have k0 : nI 0 = 0 := rfl
            have d0 := fun (d : Nat) => T_demand0 (d := d) (h := h1) (x := x) (cu := cu) (F := F) (o := o) (p := p) (q := q) (z := z) (T := T) (ru := ru) (im := im) (tp := tp) (R := R) (u' := u') (v := 0) (l := nI (skp tp M m1)) (n' := nI (skp tp M m1)) (e' := nI (10 - f)) (g' := nI g1) hT ht
            refine ⟨⟨by omega, le1⟩, h1, nI (skp tp M m1), nI (10 - f), nI g1, ex_le b2 (by omega), ?_⟩
            simp only [cr_217, eb_217_0, eb_217_58, jx_ns_r, jx_ns_n, jx_ns_q, jx_ns_i, jx_gl_0, jx_gl_s, if_true, if_false, ite_true, ite_false, eq_self, Bool.false_eq_true, List.length_cons, List.length_nil, Nat.zero_le, Nat.reduceAdd, Nat.reduceSub, Nat.reduceLeDiff, Nat.reduceLT, Nat.reduceEqDiff, Int.reduceToNat, reduceIte, xe_aload, jx_rv_r, jx_rv_n, jx_rv_q, xe_inv0, jx_cc_i, jx_cc_v, Nat.reduceMod, Nat.reduceDiv, jx_cl9_i, xe_istore, xk_getf, jx_gf_i, jx_ov_s, ak_V, xe_ldc, xe_inv1, xe_ifeq, xk_iload, jx_iv_i, ak_I, xe_dup, jx_2_i, jx_2_l, jx_2_r, jx_2_n, jx_2_q, or_self, xe_iconst, xi_3, xx_3, xe_iadd, xk_putf, ak_P, jx_pf_i, jx_pf_z, jx_pf_l, jx_pf_r, jx_pf_n, jx_pf_q, xe_new, xe_spc1, xe_astore, xi_1, xx_1, xe_isub, xe_areturn_n, xe_areturn_r, xi_91, xe_icmp_ne, xi_93, xi_0, xx_0, xe_inv3, xe_pop, xe_spc3, jx_s1, List.set_cons_zero, List.set_cons_succ, jx_2_u, jx_2_s, jx_k_i, jx_k_l, jx_k_r, jx_k_n, jx_k_u, jx_k_s, jx_k_q, tx_r ht, tx_w ht, sw_r, sw_f, tx_f, tx_s, s1, s2, hc, o1, nI_1, b5, r13, ts, d0, k0, jx_cc_x xh_217]
      · rw [if_neg hc]
        have cm := T_cmp (e := 10 - (f + 1)) (cu := cu) (F := F) (o := o) (p := p) (q := q) (z := z) (T := T) (ru := ru) (im := im) (tp := tp) (R := R) (u' := u') (t := t) hT ht eM hM (d + (3 * f + 3)) h m g x (sg tp M m) (nI m) hth hs le hg
        have st : jx_cr (d + (3 * f + 3) + 13 + 1) 217 [.ref t] (sw (tx h t (nI n) (nI (10 - (f + 1))) (nI g) u') cu F o p q z T x ru im tp R) = jx_eb (d + (3 * f + 3) + 13) 217 111 [.ref t, .int (sg tp M m), .int (nI m), jx_un, jx_un, jx_un] [] (sw (tx h t (nI m) (nI (10 - (f + 1))) (nI g) u') cu F o p q z T x ru im tp R) := by
          simp only [cr_217, eb_217_0, eb_217_58, jx_ns_r, jx_ns_n, jx_ns_q, jx_ns_i, jx_gl_0, jx_gl_s, if_true, if_false, ite_true, ite_false, eq_self, Bool.false_eq_true, List.length_cons, List.length_nil, Nat.zero_le, Nat.reduceAdd, Nat.reduceSub, Nat.reduceLeDiff, Nat.reduceLT, Nat.reduceEqDiff, Int.reduceToNat, reduceIte, xe_aload, jx_rv_r, jx_rv_n, jx_rv_q, xe_inv0, jx_cc_i, jx_cc_v, Nat.reduceMod, Nat.reduceDiv, jx_cl9_i, xe_istore, xk_getf, jx_gf_i, jx_ov_s, ak_V, xe_ldc, xe_inv1, xe_ifeq, xk_iload, jx_iv_i, ak_I, xe_dup, jx_2_i, jx_2_l, jx_2_r, jx_2_n, jx_2_q, or_self, xe_iconst, xi_3, xx_3, xe_iadd, xk_putf, ak_P, jx_pf_i, jx_pf_z, jx_pf_l, jx_pf_r, jx_pf_n, jx_pf_q, xe_new, xe_spc1, xe_astore, xi_1, xx_1, xe_isub, xe_areturn_n, xe_areturn_r, xi_91, xe_icmp_ne, xi_93, xi_0, xx_0, xe_inv3, xe_pop, xe_spc3, jx_s1, List.set_cons_zero, List.set_cons_succ, jx_2_u, jx_2_s, jx_k_i, jx_k_l, jx_k_r, jx_k_n, jx_k_u, jx_k_s, jx_k_q, tx_r ht, sw_r, sw_f, tx_f, tx_s, s1, s2, hc]
        refine ⟨fun k pl hk => ?_, fun L2 m2 g2 hk => ?_⟩
        · obtain ⟨b1, h2, n2, e2, g2, b5, b6⟩ := cm.1 k pl hk
          exact ⟨b1, h2, n2, e2, g2, ex_le b5 (by omega), st.trans b6⟩
        · obtain ⟨⟨y1, y2, y3, y4⟩, h2, r2, b5, b6, b7⟩ := cm.2 L2 m2 g2 hk
          exact ⟨⟨by omega, y2, by omega, y4⟩, h2, r2, ex_le b5 (by omega), b6, st.trans b7⟩
end SDK
