/-! SpoonCourt: doQuarrel, arePeaceful, stripped -/
set_option maxRecDepth 100000
/-- a thing of person p's quarrels with one of person q's -/
def sp_dq (a : Nat → Nat → Int32) (tm p q : Nat) : Prop := ∃ t, t < tm ∧ (a 8 p >>> (nI t &&& 31)) &&& 1 = 1 ∧ ¬ a 2 t &&& a 8 q = 0
/-- nobody in the set quarrels with another, nor with himself -/
def sp_pc (a : Nat → Nat → Int32) (tm pm : Nat) (set : Int32) : Prop := ∀ p, p < pm → ∀ q, q ≤ p → ¬ ((set >>> (nI p &&& 31)) &&& 1 = 1 ∧ (set >>> (nI q &&& 31)) &&& 1 = 1 ∧ sp_dq a tm p q)
noncomputable def sp_bl (P : Prop) : Int32 := @ite Int32 P (Classical.propDecidable P) 1 0
theorem sp_bl_t {P : Prop} (h : P) : sp_bl P = 1 := if_pos h
theorem sp_bl_f {P : Prop} (h : ¬ P) : sp_bl P = 0 := if_neg h
/-- the best set of the last m of n + 1, from above -/
noncomputable def sp_str (P : Nat → Prop) (n : Nat) : Nat → Int32
  | 0 => nI n
  | m + 1 => @ite Int32 (cq_bc (nI (n - m)) ≤ cq_bc (sp_str P n m) ∧ P (n - m)) (Classical.propDecidable _) (nI (n - m)) (sp_str P n m)
section SP9
variable {d : Nat} {h : jx_H} {cu : Option Nat} {F : Nat → Int32} {o p q z : cq_C} {T : List Value} {x : Int32 × Int32} {ru im : Nat → Option Nat} {tp : Nat → Int32} {R : Nat → Nat → Int32} {s : Nat → Int32} {a : Nat → Nat → Int32} {w : Nat → Int64}
variable {i k : Int32} {t tm pm day um now D n : Nat} {lo : Option Nat} {Lo : Option ((Nat → Int64) → Int64)} {ps : Nat → Int32} {pa : Nat → Nat → Int32} {pw : Nat → Int64}
variable {u v : Nat}
theorem sp_doQuarrel (hu : u < 6) (hv : v < 6) (htm : tm ≤ 6) (et : s 2 = nI tm) : jx_cr (d + 2) 34 [.ref 48, .int (nI u), .int (nI v)] (sw h (some 49) F (s, a, w) p q z T x ru im tp R) = some (.inl (some (.int (sp_bl (sp_dq a tm u v)))), (sw h (some 49) F (s, a, w) p q z T x ru im tp R)) := by
  have iu := sp_ix hu (by decide)
  have iw := sp_ix hv (by decide)
  have key := jx_lp (d := d + 1) (y := 34) (L := 2) (n := tm) (γ := Unit) (ls := fun m _ => [.ref 48, .int (nI u), .int (nI v), .int (nI m)]) (H := fun _ _ => (sw h (some 49) F (s, a, w) p q z T x ru im tp R))
    (I := fun m _ => ∀ t, t < m → ¬ ((a 8 u >>> (nI t &&& 31)) &&& 1 = 1 ∧ ¬ a 2 t &&& a 8 v = 0))
    (G := fun r => r = some (.inl (some (.int (sp_bl (sp_dq a tm u v)))), (sw h (some 49) F (s, a, w) p q z T x ru im tp R))) ?_ ?_ tm 0 () (by omega) (fun t ht => absurd ht (by omega))
  · rw [nI_0] at key
    simp only [cr_34, eb_34_0, jx_ns_r, jx_ns_n, jx_ns_q, jx_ns_i, jx_gl_0, jx_gl_s, if_true, if_false, ite_true, ite_false, eq_self, Bool.false_eq_true, List.length_cons, List.length_nil, Nat.zero_le, Nat.reduceAdd, Nat.reduceSub, Nat.reduceLeDiff, Nat.reduceLT, Nat.reduceEqDiff, Int.reduceToNat, reduceIte, xe_iconst, xi_0, xx_0, xe_istore, xe_goto_w, xk_iload, jx_iv_i, ak_I, xe_aload, jx_rv_r, jx_rv_n, jx_rv_q, xk_getf, jx_gf_i, jx_ov_s, ak_V, xe_icmp_ge, xk_iald, ja_ia, ak_A, true_or, or_true, xe_sta2, jx_cc_i, jx_cc_v, Nat.reduceMod, Nat.reduceDiv, xe_ifeq, xe_iand, xi_1, xx_1, xe_zreturn, xZ, xk_iinc, ak_C, xe_goto, jx_s1, List.set_cons_zero, List.set_cons_succ, jx_2_i, jx_2_l, jx_2_r, jx_2_n, jx_2_u, jx_2_s, jx_2_q, jx_k_i, jx_k_l, jx_k_r, jx_k_n, jx_k_u, jx_k_s, jx_k_q]
    exact key
  · intro m _ hm hI
    have h3 : ¬ nI tm ≤ nI m := nI_ge hm (by omega)
    have im := sp_ix (show m < 6 by omega) (by decide)
    by_cases r1 : (a 8 u >>> (nI m &&& 31)) &&& 1 = 1
    · by_cases r2 : a 2 m &&& a 8 v = 0
      · refine .inr ⟨(), fun t ht => ?_, ?_⟩
        · rcases (show t < m ∨ t = m by omega) with r | r
          · exact hI t r
          · subst r; exact fun q => q.2 r2
        · rw [eb_34_2]
          simp only [eb_34_53, jx_ns_r, jx_ns_n, jx_ns_q, jx_ns_i, jx_gl_0, jx_gl_s, if_true, if_false, ite_true, ite_false, eq_self, Bool.false_eq_true, List.length_cons, List.length_nil, Nat.zero_le, Nat.reduceAdd, Nat.reduceSub, Nat.reduceLeDiff, Nat.reduceLT, Nat.reduceEqDiff, Int.reduceToNat, reduceIte, xe_iconst, xi_0, xx_0, xe_istore, xe_goto_w, xk_iload, jx_iv_i, ak_I, xe_aload, jx_rv_r, jx_rv_n, jx_rv_q, xk_getf, jx_gf_i, jx_ov_s, ak_V, xe_icmp_ge, xk_iald, ja_ia, ak_A, true_or, or_true, xe_sta2, jx_cc_i, jx_cc_v, Nat.reduceMod, Nat.reduceDiv, xe_ifeq, xe_iand, xi_1, xx_1, xe_zreturn, xZ, xk_iinc, ak_C, xe_goto, jx_s1, List.set_cons_zero, List.set_cons_succ, jx_2_i, jx_2_l, jx_2_r, jx_2_n, jx_2_u, jx_2_s, jx_2_q, jx_k_i, jx_k_l, jx_k_r, jx_k_n, jx_k_u, jx_k_s, jx_k_q, sw_r, sw_f, sw_s, sw_wo, sw_ro, sw_rp, sw_woo, sw_wor, sw_wpo, sw_wpr, cq_f, cq_s, va_up_s, va_rf_s, va_rf_n, et, h3, iu, iw, im, cq_has, r1, r2, sp_10, nI_1]
      · refine .inl ?_
        rw [sp_bl_t ⟨m, hm, r1, r2⟩]
        simp only [eb_34_2, jx_ns_r, jx_ns_n, jx_ns_q, jx_ns_i, jx_gl_0, jx_gl_s, if_true, if_false, ite_true, ite_false, eq_self, Bool.false_eq_true, List.length_cons, List.length_nil, Nat.zero_le, Nat.reduceAdd, Nat.reduceSub, Nat.reduceLeDiff, Nat.reduceLT, Nat.reduceEqDiff, Int.reduceToNat, reduceIte, xe_iconst, xi_0, xx_0, xe_istore, xe_goto_w, xk_iload, jx_iv_i, ak_I, xe_aload, jx_rv_r, jx_rv_n, jx_rv_q, xk_getf, jx_gf_i, jx_ov_s, ak_V, xe_icmp_ge, xk_iald, ja_ia, ak_A, true_or, or_true, xe_sta2, jx_cc_i, jx_cc_v, Nat.reduceMod, Nat.reduceDiv, xe_ifeq, xe_iand, xi_1, xx_1, xe_zreturn, xZ, xk_iinc, ak_C, xe_goto, jx_s1, List.set_cons_zero, List.set_cons_succ, jx_2_i, jx_2_l, jx_2_r, jx_2_n, jx_2_u, jx_2_s, jx_2_q, jx_k_i, jx_k_l, jx_k_r, jx_k_n, jx_k_u, jx_k_s, jx_k_q, sw_r, sw_f, sw_s, sw_wo, sw_ro, sw_rp, sw_woo, sw_wor, sw_wpo, sw_wpr, cq_f, cq_s, va_up_s, va_rf_s, va_rf_n, et, h3, iu, iw, im, cq_has, r1, r2, sp_10]
    · refine .inr ⟨(), fun t ht => ?_, ?_⟩
      · rcases (show t < m ∨ t = m by omega) with r | r
        · exact hI t r
        · subst r; exact fun q => r1 q.1
      · rw [eb_34_2]
        simp only [eb_34_53, jx_ns_r, jx_ns_n, jx_ns_q, jx_ns_i, jx_gl_0, jx_gl_s, if_true, if_false, ite_true, ite_false, eq_self, Bool.false_eq_true, List.length_cons, List.length_nil, Nat.zero_le, Nat.reduceAdd, Nat.reduceSub, Nat.reduceLeDiff, Nat.reduceLT, Nat.reduceEqDiff, Int.reduceToNat, reduceIte, xe_iconst, xi_0, xx_0, xe_istore, xe_goto_w, xk_iload, jx_iv_i, ak_I, xe_aload, jx_rv_r, jx_rv_n, jx_rv_q, xk_getf, jx_gf_i, jx_ov_s, ak_V, xe_icmp_ge, xk_iald, ja_ia, ak_A, true_or, or_true, xe_sta2, jx_cc_i, jx_cc_v, Nat.reduceMod, Nat.reduceDiv, xe_ifeq, xe_iand, xi_1, xx_1, xe_zreturn, xZ, xk_iinc, ak_C, xe_goto, jx_s1, List.set_cons_zero, List.set_cons_succ, jx_2_i, jx_2_l, jx_2_r, jx_2_n, jx_2_u, jx_2_s, jx_2_q, jx_k_i, jx_k_l, jx_k_r, jx_k_n, jx_k_u, jx_k_s, jx_k_q, sw_r, sw_f, sw_s, sw_wo, sw_ro, sw_rp, sw_woo, sw_wor, sw_wpo, sw_wpr, cq_f, cq_s, va_up_s, va_rf_s, va_rf_n, et, h3, iu, iw, im, cq_has, r1, nI_1]
  · intro _ hI
    have h3 : nI tm ≤ nI tm := (nI_leI (by omega) (by omega)).mpr (Nat.le_refl _)
    rw [sp_bl_f (fun ⟨t, h1, h2⟩ => hI t h1 h2)]
    simp only [eb_34_2, eb_34_59, jx_ns_r, jx_ns_n, jx_ns_q, jx_ns_i, jx_gl_0, jx_gl_s, if_true, if_false, ite_true, ite_false, eq_self, Bool.false_eq_true, List.length_cons, List.length_nil, Nat.zero_le, Nat.reduceAdd, Nat.reduceSub, Nat.reduceLeDiff, Nat.reduceLT, Nat.reduceEqDiff, Int.reduceToNat, reduceIte, xe_iconst, xi_0, xx_0, xe_istore, xe_goto_w, xk_iload, jx_iv_i, ak_I, xe_aload, jx_rv_r, jx_rv_n, jx_rv_q, xk_getf, jx_gf_i, jx_ov_s, ak_V, xe_icmp_ge, xk_iald, ja_ia, ak_A, true_or, or_true, xe_sta2, jx_cc_i, jx_cc_v, Nat.reduceMod, Nat.reduceDiv, xe_ifeq, xe_iand, xi_1, xx_1, xe_zreturn, xZ, xk_iinc, ak_C, xe_goto, jx_s1, List.set_cons_zero, List.set_cons_succ, jx_2_i, jx_2_l, jx_2_r, jx_2_n, jx_2_u, jx_2_s, jx_2_q, jx_k_i, jx_k_l, jx_k_r, jx_k_n, jx_k_u, jx_k_s, jx_k_q, sw_r, sw_f, sw_s, sw_wo, sw_ro, sw_rp, sw_woo, sw_wor, sw_wpo, sw_wpr, cq_f, cq_s, va_up_s, va_rf_s, va_rf_n, et, h3]
theorem sp_arePeaceful {set : Int32} (htm : tm ≤ 6) (et : s 2 = nI tm) (hpm : pm ≤ 6) (es : s 3 = nI pm) : jx_cr (d + 3) 35 [.ref 48, .int set] (sw h (some 49) F (s, a, w) p q z T x ru im tp R) = some (.inl (some (.int (sp_bl (sp_pc a tm pm set)))), (sw h (some 49) F (s, a, w) p q z T x ru im tp R)) := by
  have hq := fun (d : Nat) (u v : Nat) (hu : u < 6) (hv : v < 6) => sp_doQuarrel (d := d) (h := h) (F := F) (a := a) (w := w) (p := p) (q := q) (z := z) (T := T) (x := x) (ru := ru) (im := im) (tp := tp) (R := R) hu hv htm et
  have key := jx_lp (d := d + 2) (y := 35) (L := 2) (n := pm) (γ := Value) (ls := fun m g => [.ref 48, .int set, .int (nI m), g]) (H := fun _ _ => (sw h (some 49) F (s, a, w) p q z T x ru im tp R))
    (I := fun m g => (g = jx_un ∨ ∃ v, g = .int v) ∧ ∀ p, p < m → ∀ q, q ≤ p → ¬ ((set >>> (nI p &&& 31)) &&& 1 = 1 ∧ (set >>> (nI q &&& 31)) &&& 1 = 1 ∧ sp_dq a tm p q))
    (G := fun r => r = some (.inl (some (.int (sp_bl (sp_pc a tm pm set)))), (sw h (some 49) F (s, a, w) p q z T x ru im tp R))) ?_ ?_ pm 0 jx_un (by omega) ⟨.inl rfl, fun t ht => absurd ht (by omega)⟩
  · rw [nI_0] at key
    simp only [cr_35, eb_35_0, jx_ns_r, jx_ns_n, jx_ns_q, jx_ns_i, jx_gl_0, jx_gl_s, if_true, if_false, ite_true, ite_false, eq_self, Bool.false_eq_true, List.length_cons, List.length_nil, Nat.zero_le, Nat.reduceAdd, Nat.reduceSub, Nat.reduceLeDiff, Nat.reduceLT, Nat.reduceEqDiff, Int.reduceToNat, reduceIte, xe_iconst, xi_0, xx_0, xe_istore, xe_goto_w, xk_iload, jx_iv_i, ak_I, xe_aload, jx_rv_r, jx_rv_n, jx_rv_q, xk_getf, jx_gf_i, jx_ov_s, ak_V, xe_icmp_ge, xe_icmp_gt, xe_sta2, jx_cc_i, jx_cc_v, Nat.reduceMod, Nat.reduceDiv, xe_ifeq, xe_inv2, jx_cl9_i, xe_zreturn, xZ, xk_iinc, ak_C, xi_1, xe_goto, xx_1, jx_s1, List.set_cons_zero, List.set_cons_succ, jx_2_i, jx_2_l, jx_2_r, jx_2_n, jx_2_u, jx_2_s, jx_2_q, jx_k_i, jx_k_l, jx_k_r, jx_k_n, jx_k_u, jx_k_s, jx_k_q]
    exact key
  · rintro m g hm ⟨hg, hI⟩
    have h3 : ¬ nI pm ≤ nI m := nI_ge hm (by omega)
    have inner := jx_lp (d := d + 2) (y := 35) (L := 15) (n := m + 1) (γ := Unit) (ls := fun v _ => [.ref 48, .int set, .int (nI m), .int (nI v)]) (H := fun _ _ => (sw h (some 49) F (s, a, w) p q z T x ru im tp R))
      (I := fun v _ => ∀ q, q < v → ¬ ((set >>> (nI m &&& 31)) &&& 1 = 1 ∧ (set >>> (nI q &&& 31)) &&& 1 = 1 ∧ sp_dq a tm m q))
      (G := fun r => r = some (.inl (some (.int (sp_bl (sp_pc a tm pm set)))), (sw h (some 49) F (s, a, w) p q z T x ru im tp R)) ∨ (∀ q, q < m + 1 → ¬ ((set >>> (nI m &&& 31)) &&& 1 = 1 ∧ (set >>> (nI q &&& 31)) &&& 1 = 1 ∧ sp_dq a tm m q)) ∧ r = jx_eb (d + 2) 35 2 [.ref 48, .int set, .int (nI (m + 1)), .int (nI (m + 1))] [] (sw h (some 49) F (s, a, w) p q z T x ru im tp R)) ?_ ?_ (m + 1) 0 () (by omega) (fun t ht => absurd ht (by omega))
    · rw [nI_0] at inner
      have e0 : jx_eb (d + 2) 35 2 [.ref 48, .int set, .int (nI m), g] [] (sw h (some 49) F (s, a, w) p q z T x ru im tp R) = jx_eb (d + 2) 35 15 [.ref 48, .int set, .int (nI m), .int 0] [] (sw h (some 49) F (s, a, w) p q z T x ru im tp R) := by
        rcases hg with hg | ⟨v', hg⟩ <;> subst hg <;> simp only [eb_35_2, jx_ns_r, jx_ns_n, jx_ns_q, jx_ns_i, jx_gl_0, jx_gl_s, if_true, if_false, ite_true, ite_false, eq_self, Bool.false_eq_true, List.length_cons, List.length_nil, Nat.zero_le, Nat.reduceAdd, Nat.reduceSub, Nat.reduceLeDiff, Nat.reduceLT, Nat.reduceEqDiff, Int.reduceToNat, reduceIte, xe_iconst, xi_0, xx_0, xe_istore, xe_goto_w, xk_iload, jx_iv_i, ak_I, xe_aload, jx_rv_r, jx_rv_n, jx_rv_q, xk_getf, jx_gf_i, jx_ov_s, ak_V, xe_icmp_ge, xe_icmp_gt, xe_sta2, jx_cc_i, jx_cc_v, Nat.reduceMod, Nat.reduceDiv, xe_ifeq, xe_inv2, jx_cl9_i, xe_zreturn, xZ, xk_iinc, ak_C, xi_1, xe_goto, xx_1, jx_s1, List.set_cons_zero, List.set_cons_succ, jx_2_i, jx_2_l, jx_2_r, jx_2_n, jx_2_u, jx_2_s, jx_2_q, jx_k_i, jx_k_l, jx_k_r, jx_k_n, jx_k_u, jx_k_s, jx_k_q, sw_r, sw_f, sw_s, sw_wo, sw_ro, sw_rp, sw_woo, sw_wor, sw_wpo, sw_wpr, cq_f, cq_s, va_up_s, va_rf_s, va_rf_n, es, h3]
      rcases inner with r | ⟨hJ, r⟩
      · exact .inl (e0.trans r)
      · refine .inr ⟨.int (nI (m + 1)), ⟨.inr ⟨_, rfl⟩, fun p hp q hq => ?_⟩, e0.trans r⟩
        rcases (show p < m ∨ p = m by omega) with r | r
        · exact hI p r q hq
        · subst r; exact hJ q (by omega)
    · intro v _ hv hJ
      have h4 : ¬ nI m < nI v := nI_nlt (by omega) (by omega)
      have hq := fun d => hq d m v (by omega) (by omega)
      have goon : ∀ (r : ¬ ((set >>> (nI m &&& 31)) &&& 1 = 1 ∧ (set >>> (nI v &&& 31)) &&& 1 = 1 ∧ sp_dq a tm m v)), ∀ q, q < v + 1 → ¬ ((set >>> (nI m &&& 31)) &&& 1 = 1 ∧ (set >>> (nI q &&& 31)) &&& 1 = 1 ∧ sp_dq a tm m q) := by
        intro r q hq
        rcases (show q < v ∨ q = v by omega) with r' | r'
        · exact hJ q r'
        · subst r'; exact r
      by_cases r1 : (set >>> (nI m &&& 31)) &&& 1 = 1
      · by_cases r2 : (set >>> (nI v &&& 31)) &&& 1 = 1
        · by_cases r3 : sp_dq a tm m v
          · have hq := fun d => (hq d).trans (by rw [sp_bl_t r3])
            refine .inl (.inl ?_)
            rw [sp_bl_f (show ¬ sp_pc a tm pm set from fun c => c m hm v (by omega) ⟨r1, r2, r3⟩)]
            simp only [eb_35_15, jx_ns_r, jx_ns_n, jx_ns_q, jx_ns_i, jx_gl_0, jx_gl_s, if_true, if_false, ite_true, ite_false, eq_self, Bool.false_eq_true, List.length_cons, List.length_nil, Nat.zero_le, Nat.reduceAdd, Nat.reduceSub, Nat.reduceLeDiff, Nat.reduceLT, Nat.reduceEqDiff, Int.reduceToNat, reduceIte, xe_iconst, xi_0, xx_0, xe_istore, xe_goto_w, xk_iload, jx_iv_i, ak_I, xe_aload, jx_rv_r, jx_rv_n, jx_rv_q, xk_getf, jx_gf_i, jx_ov_s, ak_V, xe_icmp_ge, xe_icmp_gt, xe_sta2, jx_cc_i, jx_cc_v, Nat.reduceMod, Nat.reduceDiv, xe_ifeq, xe_inv2, jx_cl9_i, xe_zreturn, xZ, xk_iinc, ak_C, xi_1, xe_goto, xx_1, jx_s1, List.set_cons_zero, List.set_cons_succ, jx_2_i, jx_2_l, jx_2_r, jx_2_n, jx_2_u, jx_2_s, jx_2_q, jx_k_i, jx_k_l, jx_k_r, jx_k_n, jx_k_u, jx_k_s, jx_k_q, sw_r, sw_f, sw_s, sw_wo, sw_ro, sw_rp, sw_woo, sw_wor, sw_wpo, sw_wpr, cq_f, cq_s, va_up_s, va_rf_s, va_rf_n, h4, cq_has, r1, r2, hq, sp_10]
          · have hq := fun d => (hq d).trans (by rw [sp_bl_f r3])
            refine .inr ⟨(), goon (fun r => r3 r.2.2), ?_⟩
            rw [eb_35_15]
            simp only [eb_35_47, jx_ns_r, jx_ns_n, jx_ns_q, jx_ns_i, jx_gl_0, jx_gl_s, if_true, if_false, ite_true, ite_false, eq_self, Bool.false_eq_true, List.length_cons, List.length_nil, Nat.zero_le, Nat.reduceAdd, Nat.reduceSub, Nat.reduceLeDiff, Nat.reduceLT, Nat.reduceEqDiff, Int.reduceToNat, reduceIte, xe_iconst, xi_0, xx_0, xe_istore, xe_goto_w, xk_iload, jx_iv_i, ak_I, xe_aload, jx_rv_r, jx_rv_n, jx_rv_q, xk_getf, jx_gf_i, jx_ov_s, ak_V, xe_icmp_ge, xe_icmp_gt, xe_sta2, jx_cc_i, jx_cc_v, Nat.reduceMod, Nat.reduceDiv, xe_ifeq, xe_inv2, jx_cl9_i, xe_zreturn, xZ, xk_iinc, ak_C, xi_1, xe_goto, xx_1, jx_s1, List.set_cons_zero, List.set_cons_succ, jx_2_i, jx_2_l, jx_2_r, jx_2_n, jx_2_u, jx_2_s, jx_2_q, jx_k_i, jx_k_l, jx_k_r, jx_k_n, jx_k_u, jx_k_s, jx_k_q, sw_r, sw_f, sw_s, sw_wo, sw_ro, sw_rp, sw_woo, sw_wor, sw_wpo, sw_wpr, cq_f, cq_s, va_up_s, va_rf_s, va_rf_n, h4, cq_has, r1, r2, hq, sp_10, nI_1]
        · refine .inr ⟨(), goon (fun r => r2 r.2.1), ?_⟩
          rw [eb_35_15]
          simp only [eb_35_47, jx_ns_r, jx_ns_n, jx_ns_q, jx_ns_i, jx_gl_0, jx_gl_s, if_true, if_false, ite_true, ite_false, eq_self, Bool.false_eq_true, List.length_cons, List.length_nil, Nat.zero_le, Nat.reduceAdd, Nat.reduceSub, Nat.reduceLeDiff, Nat.reduceLT, Nat.reduceEqDiff, Int.reduceToNat, reduceIte, xe_iconst, xi_0, xx_0, xe_istore, xe_goto_w, xk_iload, jx_iv_i, ak_I, xe_aload, jx_rv_r, jx_rv_n, jx_rv_q, xk_getf, jx_gf_i, jx_ov_s, ak_V, xe_icmp_ge, xe_icmp_gt, xe_sta2, jx_cc_i, jx_cc_v, Nat.reduceMod, Nat.reduceDiv, xe_ifeq, xe_inv2, jx_cl9_i, xe_zreturn, xZ, xk_iinc, ak_C, xi_1, xe_goto, xx_1, jx_s1, List.set_cons_zero, List.set_cons_succ, jx_2_i, jx_2_l, jx_2_r, jx_2_n, jx_2_u, jx_2_s, jx_2_q, jx_k_i, jx_k_l, jx_k_r, jx_k_n, jx_k_u, jx_k_s, jx_k_q, sw_r, sw_f, sw_s, sw_wo, sw_ro, sw_rp, sw_woo, sw_wor, sw_wpo, sw_wpr, cq_f, cq_s, va_up_s, va_rf_s, va_rf_n, h4, cq_has, r1, r2, sp_10, nI_1]
      · refine .inr ⟨(), goon (fun r => r1 r.1), ?_⟩
        rw [eb_35_15]
        simp only [eb_35_47, jx_ns_r, jx_ns_n, jx_ns_q, jx_ns_i, jx_gl_0, jx_gl_s, if_true, if_false, ite_true, ite_false, eq_self, Bool.false_eq_true, List.length_cons, List.length_nil, Nat.zero_le, Nat.reduceAdd, Nat.reduceSub, Nat.reduceLeDiff, Nat.reduceLT, Nat.reduceEqDiff, Int.reduceToNat, reduceIte, xe_iconst, xi_0, xx_0, xe_istore, xe_goto_w, xk_iload, jx_iv_i, ak_I, xe_aload, jx_rv_r, jx_rv_n, jx_rv_q, xk_getf, jx_gf_i, jx_ov_s, ak_V, xe_icmp_ge, xe_icmp_gt, xe_sta2, jx_cc_i, jx_cc_v, Nat.reduceMod, Nat.reduceDiv, xe_ifeq, xe_inv2, jx_cl9_i, xe_zreturn, xZ, xk_iinc, ak_C, xi_1, xe_goto, xx_1, jx_s1, List.set_cons_zero, List.set_cons_succ, jx_2_i, jx_2_l, jx_2_r, jx_2_n, jx_2_u, jx_2_s, jx_2_q, jx_k_i, jx_k_l, jx_k_r, jx_k_n, jx_k_u, jx_k_s, jx_k_q, sw_r, sw_f, sw_s, sw_wo, sw_ro, sw_rp, sw_woo, sw_wor, sw_wpo, sw_wpr, cq_f, cq_s, va_up_s, va_rf_s, va_rf_n, h4, cq_has, r1, sp_10, nI_1]
    · intro _ hJ
      have h4 : nI m < nI (m + 1) := nI_lt (by omega) (by omega)
      refine .inr ⟨hJ, ?_⟩
      simp only [eb_35_15, eb_35_53, jx_ns_r, jx_ns_n, jx_ns_q, jx_ns_i, jx_gl_0, jx_gl_s, if_true, if_false, ite_true, ite_false, eq_self, Bool.false_eq_true, List.length_cons, List.length_nil, Nat.zero_le, Nat.reduceAdd, Nat.reduceSub, Nat.reduceLeDiff, Nat.reduceLT, Nat.reduceEqDiff, Int.reduceToNat, reduceIte, xe_iconst, xi_0, xx_0, xe_istore, xe_goto_w, xk_iload, jx_iv_i, ak_I, xe_aload, jx_rv_r, jx_rv_n, jx_rv_q, xk_getf, jx_gf_i, jx_ov_s, ak_V, xe_icmp_ge, xe_icmp_gt, xe_sta2, jx_cc_i, jx_cc_v, Nat.reduceMod, Nat.reduceDiv, xe_ifeq, xe_inv2, jx_cl9_i, xe_zreturn, xZ, xk_iinc, ak_C, xi_1, xe_goto, xx_1, jx_s1, List.set_cons_zero, List.set_cons_succ, jx_2_i, jx_2_l, jx_2_r, jx_2_n, jx_2_u, jx_2_s, jx_2_q, jx_k_i, jx_k_l, jx_k_r, jx_k_n, jx_k_u, jx_k_s, jx_k_q, h4, nI_1]
  · rintro g ⟨hg, hI⟩
    have h3 : nI pm ≤ nI pm := (nI_leI (by omega) (by omega)).mpr (Nat.le_refl _)
    rw [sp_bl_t (show sp_pc a tm pm set from hI)]
    simp only [eb_35_2, eb_35_59, jx_ns_r, jx_ns_n, jx_ns_q, jx_ns_i, jx_gl_0, jx_gl_s, if_true, if_false, ite_true, ite_false, eq_self, Bool.false_eq_true, List.length_cons, List.length_nil, Nat.zero_le, Nat.reduceAdd, Nat.reduceSub, Nat.reduceLeDiff, Nat.reduceLT, Nat.reduceEqDiff, Int.reduceToNat, reduceIte, xe_iconst, xi_0, xx_0, xe_istore, xe_goto_w, xk_iload, jx_iv_i, ak_I, xe_aload, jx_rv_r, jx_rv_n, jx_rv_q, xk_getf, jx_gf_i, jx_ov_s, ak_V, xe_icmp_ge, xe_icmp_gt, xe_sta2, jx_cc_i, jx_cc_v, Nat.reduceMod, Nat.reduceDiv, xe_ifeq, xe_inv2, jx_cl9_i, xe_zreturn, xZ, xk_iinc, ak_C, xi_1, xe_goto, xx_1, jx_s1, List.set_cons_zero, List.set_cons_succ, jx_2_i, jx_2_l, jx_2_r, jx_2_n, jx_2_u, jx_2_s, jx_2_q, jx_k_i, jx_k_l, jx_k_r, jx_k_n, jx_k_u, jx_k_s, jx_k_q, sw_r, sw_f, sw_s, sw_wo, sw_ro, sw_rp, sw_woo, sw_wor, sw_wpo, sw_wpr, cq_f, cq_s, va_up_s, va_rf_s, va_rf_n, es, h3]
theorem sc_stripped0 : jx_cr (d + 2) 36 [.ref 48, .int i] (sw h none F o p q z T x ru im tp R) = some (.inl (some (.int (-1))), (sw h none F o p q z T x ru im tp R)) := by
  simp only [cr_36, eb_36_0, eb_36_17, jx_ns_r, jx_ns_n, jx_ns_q, jx_ns_i, jx_gl_0, jx_gl_s, if_true, if_false, ite_true, ite_false, eq_self, Bool.false_eq_true, List.length_cons, List.length_nil, Nat.zero_le, Nat.reduceAdd, Nat.reduceSub, Nat.reduceLeDiff, Nat.reduceLT, Nat.reduceEqDiff, Int.reduceToNat, reduceIte, xe_aload, jx_rv_r, jx_rv_n, jx_rv_q, xk_getf, jx_gf_i, jx_ov_s, ak_V, xe_ifnull_n, xe_ifnull_r, xk_iload, jx_iv_i, ak_I, xe_i2l, xe_lconst, xl_0, xl_1, xe_sta3, jx_cc_i, jx_cc_v, Nat.reduceMod, Nat.reduceDiv, xe_ifne, xe_goto_w, xe_iconst, xi_m1, xe_ireturn, xi_1, xx_1, xe_ishl, xe_isub, xe_istore, xe_iflt, xe_sta1, xe_icmp_gt, xe_ixor, xe_iand, xe_inv1, jx_cl9_i, xe_ifeq, xk_iinc, ak_C, xe_goto, jx_s1, List.set_cons_zero, List.set_cons_succ, jx_2_i, jx_2_l, jx_2_r, jx_2_n, jx_2_u, jx_2_s, jx_2_q, jx_k_i, jx_k_l, jx_k_r, jx_k_n, jx_k_u, jx_k_s, jx_k_q, sw_r, sw_f, sw_s, sw_wo, sw_ro, sw_rp, sw_woo, sw_wor, sw_wpo, sw_wpr, cq_f, cq_s, va_up_s, va_rf_s, va_rf_n]
theorem sc_stripped1 (hq : ¬ (0 ≤ i.toInt64 ∧ i.toInt64 ≤ 1)) : jx_cr (d + 2) 36 [.ref 48, .int i] (sw h (some 49) F (s, a, w) p q z T x ru im tp R) = some (.inl (some (.int (-1))), (sw h (some 49) F (s, a, w) p q z T x ru im tp R)) := by
  simp only [cr_36, eb_36_0, eb_36_17, jx_ns_r, jx_ns_n, jx_ns_q, jx_ns_i, jx_gl_0, jx_gl_s, if_true, if_false, ite_true, ite_false, eq_self, Bool.false_eq_true, List.length_cons, List.length_nil, Nat.zero_le, Nat.reduceAdd, Nat.reduceSub, Nat.reduceLeDiff, Nat.reduceLT, Nat.reduceEqDiff, Int.reduceToNat, reduceIte, xe_aload, jx_rv_r, jx_rv_n, jx_rv_q, xk_getf, jx_gf_i, jx_ov_s, ak_V, xe_ifnull_n, xe_ifnull_r, xk_iload, jx_iv_i, ak_I, xe_i2l, xe_lconst, xl_0, xl_1, xe_sta3, jx_cc_i, jx_cc_v, Nat.reduceMod, Nat.reduceDiv, xe_ifne, xe_goto_w, xe_iconst, xi_m1, xe_ireturn, xi_1, xx_1, xe_ishl, xe_isub, xe_istore, xe_iflt, xe_sta1, xe_icmp_gt, xe_ixor, xe_iand, xe_inv1, jx_cl9_i, xe_ifeq, xk_iinc, ak_C, xe_goto, jx_s1, List.set_cons_zero, List.set_cons_succ, jx_2_i, jx_2_l, jx_2_r, jx_2_n, jx_2_u, jx_2_s, jx_2_q, jx_k_i, jx_k_l, jx_k_r, jx_k_n, jx_k_u, jx_k_s, jx_k_q, sw_r, sw_f, sw_s, sw_wo, sw_ro, sw_rp, sw_woo, sw_wor, sw_wpo, sw_wpr, cq_f, cq_s, va_up_s, va_rf_s, va_rf_n, cq_inL, hq]
theorem sp_2m {n : Nat} (h : n ≤ 8) : nI (2 ^ n) - 1 = nI (2 ^ n - 1) := by
  rcases (by omega : n = 0 ∨ n = 1 ∨ n = 2 ∨ n = 3 ∨ n = 4 ∨ n = 5 ∨ n = 6 ∨ n = 7 ∨ n = 8) with r | r | r | r | r | r | r | r | r <;> subst r <;> decide
theorem sc_stripped (htm : tm ≤ 6) (et : s 2 = nI tm) (hpm : pm ≤ 6) (es : s 3 = nI pm) (hk : 0 ≤ k.toInt64 ∧ k.toInt64 ≤ 1) : jx_cr (d + 4) 36 [.ref 48, .int k] (sw h (some 49) F (s, a, w) p q z T x ru im tp R) = some (.inl (some (.int (if k = 0 then cq_bc (sp_str (fun m => sp_pc a tm pm (nI (2 ^ pm - 1) &&& (nI m ^^^ (-1)))) (2 ^ pm - 1) (2 ^ pm)) else sp_str (fun m => sp_pc a tm pm (nI (2 ^ pm - 1) &&& (nI m ^^^ (-1)))) (2 ^ pm - 1) (2 ^ pm)))), (sw h (some 49) F (s, a, w) p q z T x ru im tp R)) := by
  have b2 := sp_2b (show pm ≤ 8 by omega)
  have e1 := sp_2n (show pm ≤ 8 by omega)
  have e2 := sp_2m (show pm ≤ 8 by omega)
  have bc := fun (d : Nat) (v : Int32) (H : jx_H) => cq_bitCount (d := d) (x := v) (h := H)
  have hp := fun (d : Nat) (set : Int32) => sp_arePeaceful (d := d) (h := h) (F := F) (a := a) (w := w) (p := p) (q := q) (z := z) (T := T) (x := x) (ru := ru) (im := im) (tp := tp) (R := R) (set := set) htm et hpm es
  generalize eP : (fun m => sp_pc a tm pm (nI (2 ^ pm - 1) &&& (nI m ^^^ (-1)))) = P
  generalize eA : 2 ^ pm - 1 = A at *
  have key := jx_lp (d := d + 3) (y := 36) (L := 36) (n := 2 ^ pm) (γ := Unit) (ls := fun m _ => [.ref 48, .int k, .int (nI A), .int (sp_str P A m), .int (nI A - nI m)]) (H := fun _ _ => (sw h (some 49) F (s, a, w) p q z T x ru im tp R))
    (I := fun _ _ => True)
    (G := fun r => r = some (.inl (some (.int (if k = 0 then cq_bc (sp_str P A (2 ^ pm)) else sp_str P A (2 ^ pm)))), (sw h (some 49) F (s, a, w) p q z T x ru im tp R))) ?_ ?_ (2 ^ pm) 0 () (by omega) trivial
  · have e0 : nI A - nI 0 = nI A := dn_0
    simp only [sp_str, e0] at key
    simp only [cr_36, eb_36_0, eb_36_19, jx_ns_r, jx_ns_n, jx_ns_q, jx_ns_i, jx_gl_0, jx_gl_s, if_true, if_false, ite_true, ite_false, eq_self, Bool.false_eq_true, List.length_cons, List.length_nil, Nat.zero_le, Nat.reduceAdd, Nat.reduceSub, Nat.reduceLeDiff, Nat.reduceLT, Nat.reduceEqDiff, Int.reduceToNat, reduceIte, xe_aload, jx_rv_r, jx_rv_n, jx_rv_q, xk_getf, jx_gf_i, jx_ov_s, ak_V, xe_ifnull_n, xe_ifnull_r, xk_iload, jx_iv_i, ak_I, xe_i2l, xe_lconst, xl_0, xl_1, xe_sta3, jx_cc_i, jx_cc_v, Nat.reduceMod, Nat.reduceDiv, xe_ifne, xe_goto_w, xe_iconst, xi_m1, xe_ireturn, xi_1, xx_1, xe_ishl, xe_isub, xe_istore, xe_iflt, xe_sta1, xe_icmp_gt, xe_ixor, xe_iand, xe_inv1, jx_cl9_i, xe_ifeq, xk_iinc, ak_C, xe_goto, jx_s1, List.set_cons_zero, List.set_cons_succ, jx_2_i, jx_2_l, jx_2_r, jx_2_n, jx_2_u, jx_2_s, jx_2_q, jx_k_i, jx_k_l, jx_k_r, jx_k_n, jx_k_u, jx_k_s, jx_k_q, sw_r, sw_f, sw_s, sw_wo, sw_ro, sw_rp, sw_woo, sw_wor, sw_wpo, sw_wpr, cq_f, cq_s, va_up_s, va_rf_s, va_rf_n, cq_inL, hk, and_self, sp_10, es, e1, e2]
    exact key
  · intro m _ hm _
    have em : nI A - nI m = nI (A - m) := pk_sub (by omega)
    have em1 : nI (A - m) + (-1) = nI A - nI (m + 1) := dn_s (by omega)
    have h3 : ¬ nI (A - m) < 0 := nI_pos (by omega)
    refine .inr ⟨(), trivial, ?_⟩
    have eP := congrFun eP (A - m)
    have hp := fun d => hp d (nI A &&& (nI (A - m) ^^^ (-1)))
    rw [eP] at hp
    rw [em, eb_36_36]
    by_cases r1 : cq_bc (nI (A - m)) ≤ cq_bc (sp_str P A m)
    · have r1' : ¬ cq_bc (sp_str P A m) < cq_bc (nI (A - m)) := Int32.not_lt.mpr r1
      by_cases r2 : P (A - m)
      · have hp := fun d => (hp d).trans (by rw [sp_bl_t r2])
        simp only [eb_36_69, jx_ns_r, jx_ns_n, jx_ns_q, jx_ns_i, jx_gl_0, jx_gl_s, if_true, if_false, ite_true, ite_false, eq_self, Bool.false_eq_true, List.length_cons, List.length_nil, Nat.zero_le, Nat.reduceAdd, Nat.reduceSub, Nat.reduceLeDiff, Nat.reduceLT, Nat.reduceEqDiff, Int.reduceToNat, reduceIte, xe_aload, jx_rv_r, jx_rv_n, jx_rv_q, xk_getf, jx_gf_i, jx_ov_s, ak_V, xe_ifnull_n, xe_ifnull_r, xk_iload, jx_iv_i, ak_I, xe_i2l, xe_lconst, xl_0, xl_1, xe_sta3, jx_cc_i, jx_cc_v, Nat.reduceMod, Nat.reduceDiv, xe_ifne, xe_goto_w, xe_iconst, xi_m1, xe_ireturn, xi_1, xx_1, xe_ishl, xe_isub, xe_istore, xe_iflt, xe_sta1, xe_icmp_gt, xe_ixor, xe_iand, xe_inv1, jx_cl9_i, xe_ifeq, xk_iinc, ak_C, xe_goto, jx_s1, List.set_cons_zero, List.set_cons_succ, jx_2_i, jx_2_l, jx_2_r, jx_2_n, jx_2_u, jx_2_s, jx_2_q, jx_k_i, jx_k_l, jx_k_r, jx_k_n, jx_k_u, jx_k_s, jx_k_q, sw_r, sw_f, sw_s, sw_wo, sw_ro, sw_rp, sw_woo, sw_wor, sw_wpo, sw_wpr, cq_f, cq_s, va_up_s, va_rf_s, va_rf_n, h3, bc, r1', hp, sp_10, em1, sp_str, if_pos (And.intro r1 r2)]
      · have hp := fun d => (hp d).trans (by rw [sp_bl_f r2])
        simp only [eb_36_69, jx_ns_r, jx_ns_n, jx_ns_q, jx_ns_i, jx_gl_0, jx_gl_s, if_true, if_false, ite_true, ite_false, eq_self, Bool.false_eq_true, List.length_cons, List.length_nil, Nat.zero_le, Nat.reduceAdd, Nat.reduceSub, Nat.reduceLeDiff, Nat.reduceLT, Nat.reduceEqDiff, Int.reduceToNat, reduceIte, xe_aload, jx_rv_r, jx_rv_n, jx_rv_q, xk_getf, jx_gf_i, jx_ov_s, ak_V, xe_ifnull_n, xe_ifnull_r, xk_iload, jx_iv_i, ak_I, xe_i2l, xe_lconst, xl_0, xl_1, xe_sta3, jx_cc_i, jx_cc_v, Nat.reduceMod, Nat.reduceDiv, xe_ifne, xe_goto_w, xe_iconst, xi_m1, xe_ireturn, xi_1, xx_1, xe_ishl, xe_isub, xe_istore, xe_iflt, xe_sta1, xe_icmp_gt, xe_ixor, xe_iand, xe_inv1, jx_cl9_i, xe_ifeq, xk_iinc, ak_C, xe_goto, jx_s1, List.set_cons_zero, List.set_cons_succ, jx_2_i, jx_2_l, jx_2_r, jx_2_n, jx_2_u, jx_2_s, jx_2_q, jx_k_i, jx_k_l, jx_k_r, jx_k_n, jx_k_u, jx_k_s, jx_k_q, sw_r, sw_f, sw_s, sw_wo, sw_ro, sw_rp, sw_woo, sw_wor, sw_wpo, sw_wpr, cq_f, cq_s, va_up_s, va_rf_s, va_rf_n, h3, bc, r1', hp, sp_10, em1, sp_str, if_neg (fun r : (cq_bc (nI (A - m)) ≤ cq_bc (sp_str P A m) ∧ P (A - m)) => r2 r.2)]
    · have r1' : cq_bc (sp_str P A m) < cq_bc (nI (A - m)) := Int32.not_le.mp r1
      simp only [eb_36_69, jx_ns_r, jx_ns_n, jx_ns_q, jx_ns_i, jx_gl_0, jx_gl_s, if_true, if_false, ite_true, ite_false, eq_self, Bool.false_eq_true, List.length_cons, List.length_nil, Nat.zero_le, Nat.reduceAdd, Nat.reduceSub, Nat.reduceLeDiff, Nat.reduceLT, Nat.reduceEqDiff, Int.reduceToNat, reduceIte, xe_aload, jx_rv_r, jx_rv_n, jx_rv_q, xk_getf, jx_gf_i, jx_ov_s, ak_V, xe_ifnull_n, xe_ifnull_r, xk_iload, jx_iv_i, ak_I, xe_i2l, xe_lconst, xl_0, xl_1, xe_sta3, jx_cc_i, jx_cc_v, Nat.reduceMod, Nat.reduceDiv, xe_ifne, xe_goto_w, xe_iconst, xi_m1, xe_ireturn, xi_1, xx_1, xe_ishl, xe_isub, xe_istore, xe_iflt, xe_sta1, xe_icmp_gt, xe_ixor, xe_iand, xe_inv1, jx_cl9_i, xe_ifeq, xk_iinc, ak_C, xe_goto, jx_s1, List.set_cons_zero, List.set_cons_succ, jx_2_i, jx_2_l, jx_2_r, jx_2_n, jx_2_u, jx_2_s, jx_2_q, jx_k_i, jx_k_l, jx_k_r, jx_k_n, jx_k_u, jx_k_s, jx_k_q, sw_r, sw_f, sw_s, sw_wo, sw_ro, sw_rp, sw_woo, sw_wor, sw_wpo, sw_wpr, cq_f, cq_s, va_up_s, va_rf_s, va_rf_n, h3, bc, r1', em1, sp_str, if_neg (fun r : (cq_bc (nI (A - m)) ≤ cq_bc (sp_str P A m) ∧ P (A - m)) => r1 r.1)]
  · intro _ _
    have e9 : nI A - nI (2 ^ pm) = -1 := by
      rw [show 2 ^ pm = A + 1 by omega]; exact dn_e
    have h9 : (-1 : Int32) < 0 := by decide
    by_cases r : k = 0 <;> simp only [eb_36_36, eb_36_75, eb_36_86, eb_36_87, jx_ns_r, jx_ns_n, jx_ns_q, jx_ns_i, jx_gl_0, jx_gl_s, if_true, if_false, ite_true, ite_false, eq_self, Bool.false_eq_true, List.length_cons, List.length_nil, Nat.zero_le, Nat.reduceAdd, Nat.reduceSub, Nat.reduceLeDiff, Nat.reduceLT, Nat.reduceEqDiff, Int.reduceToNat, reduceIte, xe_aload, jx_rv_r, jx_rv_n, jx_rv_q, xk_getf, jx_gf_i, jx_ov_s, ak_V, xe_ifnull_n, xe_ifnull_r, xk_iload, jx_iv_i, ak_I, xe_i2l, xe_lconst, xl_0, xl_1, xe_sta3, jx_cc_i, jx_cc_v, Nat.reduceMod, Nat.reduceDiv, xe_ifne, xe_goto_w, xe_iconst, xi_m1, xe_ireturn, xi_1, xx_1, xe_ishl, xe_isub, xe_istore, xe_iflt, xe_sta1, xe_icmp_gt, xe_ixor, xe_iand, xe_inv1, jx_cl9_i, xe_ifeq, xk_iinc, ak_C, xe_goto, jx_s1, List.set_cons_zero, List.set_cons_succ, jx_2_i, jx_2_l, jx_2_r, jx_2_n, jx_2_u, jx_2_s, jx_2_q, jx_k_i, jx_k_l, jx_k_r, jx_k_n, jx_k_u, jx_k_s, jx_k_q, e9, h9, r, bc]
end SP9
