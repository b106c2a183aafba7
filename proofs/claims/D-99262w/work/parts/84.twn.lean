/-! THE TWIN: begins, couldRule, ruled -/
set_option maxRecDepth 100000
section TN
variable {d : Nat} {h : jx_H} {s : Nat → Int32} {a : Nat → Nat → Int32} {E N : Nat → Int32} {Q : Nat → Nat → Int32} {W : Nat → Nat → Int64} {i k : Int32} {t u v tm pm day now D n m : Nat} {Lo : Option ((Nat → Int64) → Int64)}
variable {nm rm : Nat} {Lr : Nat → (Nat → Int64) → Int64} {H : jx_H} {c e : Nat} {f g : Nat → Int32}
/-- a row into another -/
theorem tm_copies (hce : ¬ c = e) (h1 : H.1 c = .inl (0, n, .inl f)) (h2 : H.1 e = .inl (0, n, .inl g)) (hn : n ≤ 1000) : jx_cr (d + 1) 91 [.ref c, .ref e] H = some (.inl none, jx_put H e (.inl (0, n, .inl (cq_fl n f g)))) := by
  have en : Int32.ofNat n = nI n := rfl
  have pp : ∀ x y : va_E, jx_put (jx_put H e x) e y = jx_put H e y := by
    intro x y
    simp only [jx_put]
    congr 1
    funext j
    by_cases q : j = e
    · rw [if_pos q, if_pos q]
    · rw [if_neg q, if_neg q, if_neg q]
  have p0 : jx_put H e (.inl (0, n, .inl g)) = H := by
    simp only [jx_put]
    rw [← h2]
    have : (fun j => if j = e then H.1 e else H.1 j) = H.1 := by
      funext j
      by_cases q : j = e
      · rw [if_pos q, q]
      · rw [if_neg q]
    rw [this]
  have r1 : ∀ x, (jx_put H e x).1 c = .inl (0, n, .inl f) := fun x => by rw [jx_put_at, if_neg hce]; exact h1
  have r2 : ∀ x, (jx_put H e x).1 e = x := fun x => by rw [jx_put_at, if_pos rfl]
  have key := jx_lp (d := d) (y := 91) (L := 2) (n := n) (γ := Unit) (ls := fun m _ => [.ref c, .ref e, .int (nI m)]) (H := fun m _ => jx_put H e (.inl (0, n, .inl (cq_fl m f g))))
    (I := fun _ _ => True)
    (G := fun r => r = some (.inl none, jx_put H e (.inl (0, n, .inl (cq_fl n f g))))) ?_ ?_ n 0 () (by omega) trivial
  · simp only [nI_0, cq_fl_0, p0] at key
    simp only [cr_91 jx_ns_r jx_ns_r, eb_91_0, jx_ns_r, jx_ns_n, jx_ns_q, jx_ns_i, jx_gl_0, jx_gl_s, if_true, if_false, ite_true, ite_false, eq_self, Bool.false_eq_true, List.length_cons, List.length_nil, Nat.zero_le, Nat.reduceAdd, Nat.reduceSub, Nat.reduceLeDiff, Nat.reduceLT, Nat.reduceEqDiff, Int.reduceToNat, reduceIte, xe_iconst, xi_0, xx_0, xe_istore, xe_goto_w, xk_iload, jx_iv_i, ak_I, xe_aload, jx_rv_r, jx_rv_n, jx_rv_q, xk_alen, jx_al_i, xe_icmp_ge, xk_iald, ja_ia, jx_ov_s, ak_A, true_or, or_true, xk_iast, ja_is, ak_S, ak_P, xk_iinc, ak_C, xi_1, xe_goto, xe_return, jx_s1, List.set_cons_zero, List.set_cons_succ, jx_2_i, jx_2_l, jx_2_r, jx_2_n, jx_2_u, jx_2_s, jx_2_q, jx_k_i, jx_k_l, jx_k_r, jx_k_n, jx_k_u, jx_k_s, jx_k_q]
    exact key
  · intro m _ hm _
    have h3 : ¬ nI n ≤ nI m := nI_ge hm (by omega)
    have i1 := sp_ix hm (by omega)
    refine .inr ⟨(), trivial, ?_⟩
    rw [eb_91_2]
    simp only [jx_ns_r, jx_ns_n, jx_ns_q, jx_ns_i, jx_gl_0, jx_gl_s, if_true, if_false, ite_true, ite_false, eq_self, Bool.false_eq_true, List.length_cons, List.length_nil, Nat.zero_le, Nat.reduceAdd, Nat.reduceSub, Nat.reduceLeDiff, Nat.reduceLT, Nat.reduceEqDiff, Int.reduceToNat, reduceIte, xe_iconst, xi_0, xx_0, xe_istore, xe_goto_w, xk_iload, jx_iv_i, ak_I, xe_aload, jx_rv_r, jx_rv_n, jx_rv_q, xk_alen, jx_al_i, xe_icmp_ge, xk_iald, ja_ia, jx_ov_s, ak_A, true_or, or_true, xk_iast, ja_is, ak_S, ak_P, xk_iinc, ak_C, xi_1, xe_goto, xe_return, jx_s1, List.set_cons_zero, List.set_cons_succ, jx_2_i, jx_2_l, jx_2_r, jx_2_n, jx_2_u, jx_2_s, jx_2_q, jx_k_i, jx_k_l, jx_k_r, jx_k_n, jx_k_u, jx_k_s, jx_k_q, r1, r2, pp, en, h3, i1, cq_fl_s, nI_1]
  · intro _ _
    have h3 : nI n ≤ nI n := (nI_leI (by omega) (by omega)).mpr (Nat.le_refl _)
    simp only [eb_91_2, eb_91_20, jx_ns_r, jx_ns_n, jx_ns_q, jx_ns_i, jx_gl_0, jx_gl_s, if_true, if_false, ite_true, ite_false, eq_self, Bool.false_eq_true, List.length_cons, List.length_nil, Nat.zero_le, Nat.reduceAdd, Nat.reduceSub, Nat.reduceLeDiff, Nat.reduceLT, Nat.reduceEqDiff, Int.reduceToNat, reduceIte, xe_iconst, xi_0, xx_0, xe_istore, xe_goto_w, xk_iload, jx_iv_i, ak_I, xe_aload, jx_rv_r, jx_rv_n, jx_rv_q, xk_alen, jx_al_i, xe_icmp_ge, xk_iald, ja_ia, jx_ov_s, ak_A, true_or, or_true, xk_iast, ja_is, ak_S, ak_P, xk_iinc, ak_C, xi_1, xe_goto, xe_return, jx_s1, List.set_cons_zero, List.set_cons_succ, jx_2_i, jx_2_l, jx_2_r, jx_2_n, jx_2_u, jx_2_s, jx_2_q, jx_k_i, jx_k_l, jx_k_r, jx_k_n, jx_k_u, jx_k_s, jx_k_q, r1, en, h3]
theorem tm_begins : jx_cr (d + 2) 95 [.ref 113] (tw h s a E N Q W) = some (.inl none, tw h (cq_bgs s) (cq_bgn a) E N Q W) := by
  have cp := tm_copies (d := d) (c := 125) (e := 119) (H := (tw h s a E N Q W)) (n := 6) (f := a 3) (g := a 7) (by omega) rfl rfl (by omega)
  rw [tw_w6] at cp
  have eS : va_up (va_up (va_up (va_up s 7 0) 8 (-1)) 9 (-1)) 10 0 = cq_bgs s := by
    funext k
    simp only [va_up, cq_bgs]
    by_cases q10 : k = 10
    · subst q10; rfl
    · rw [if_neg q10]
      by_cases q9 : k = 9
      · subst q9; rfl
      · rw [if_neg q9]
        by_cases q8 : k = 8
        · subst q8; rfl
        · rw [if_neg q8]
          by_cases q7 : k = 7
          · subst q7; rfl
          · simp only [q7, q8, q9, q10, if_false]
  have key := jx_lp (d := d + 1) (y := 95) (L := 43) (n := 6) (γ := Unit) (ls := fun m _ => [.ref 113, .int (nI m)]) (H := fun m _ => tw h (cq_bgs s) (fun j => if j = 6 then cq_fl m (fun _ => 0) (a 6) else if j = 7 then cq_fl 6 (a 3) (a 7) else if j = 8 then cq_fl m (fun _ => 0) (a 8) else if j = 9 then cq_fl m (fun _ => 0) (a 9) else a j) E N Q W)
    (I := fun _ _ => True)
    (G := fun r => r = some (.inl none, tw h (cq_bgs s) (cq_bgn a) E N Q W)) ?_ ?_ 6 0 () (by omega) trivial
  · have eA : (fun j => if j = 6 then a 6 else if j = 7 then cq_fl 6 (a 3) (a 7) else if j = 8 then a 8 else if j = 9 then a 9 else a j) = va_up a 7 (cq_fl 6 (a 3) (a 7)) := by
      funext j
      simp only [va_up]
      by_cases q7 : j = 7
      · subst q7; rfl
      · rw [if_neg q7, if_neg q7]
        by_cases q6 : j = 6
        · rw [if_pos q6, q6]
        · rw [if_neg q6]
          by_cases q8 : j = 8
          · rw [if_pos q8, q8]
          · rw [if_neg q8]
            by_cases q9 : j = 9
            · rw [if_pos q9, q9]
            · rw [if_neg q9]
    simp only [nI_0, cq_fl_0, eA] at key
    simp only [cr_95, eb_95_0, jx_ns_r, jx_ns_n, jx_ns_q, jx_ns_i, jx_gl_0, jx_gl_s, if_true, if_false, ite_true, ite_false, eq_self, Bool.false_eq_true, List.length_cons, List.length_nil, Nat.zero_le, Nat.reduceAdd, Nat.reduceSub, Nat.reduceLeDiff, Nat.reduceLT, Nat.reduceEqDiff, Int.reduceToNat, reduceIte, xe_aload, jx_rv_r, jx_rv_n, jx_rv_q, xk_getf, jx_gf_i, jx_ov_s, ak_V, xe_sta2, jx_cc_i, jx_cc_v, Nat.reduceMod, Nat.reduceDiv, xe_iconst, xi_4, xx_4, xi_0, xx_0, xk_iast, ja_is, ak_S, ak_P, xi_5, xx_5, xi_m1, xi_6, xx_6, xi_7, xx_7, xe_istore, xe_goto_w, xk_iload, jx_iv_i, ak_I, xe_icmp_ge, xk_iinc, ak_C, xi_1, xe_goto, xe_return, jx_s1, List.set_cons_zero, List.set_cons_succ, jx_2_i, jx_2_l, jx_2_r, jx_2_n, jx_2_u, jx_2_s, jx_2_q, jx_k_i, jx_k_l, jx_k_r, jx_k_n, jx_k_u, jx_k_s, jx_k_q, tw_r, tw_f, tw_s, tq_r, tq_w, tw_wo, tw_wsc, tq_ile_u, tq_ilo_u, va_up_s, tw_w2, tw_w3, tw_w4, tw_w5, tw_w6, tw_w7, tw_w8, tw_w9, tw_w10, tw_w11, tw_w12, tw_w13, tw_w14, tw_w15, tw_w16, tw_w17, tw_w18, tw_w29, tw_w30, tw_w31, tw_w32, tw_w33, tw_w34, tw_w35, tw_w36, tw_w37, tw_w38, tw_w39, tw_w40, tw_w44, tw_w45, tw_w46, tw_w47, tw_w48, tw_w49, tw_w50, cp, eS]
    exact key
  · intro m _ hm _
    have h3 : ¬ (6 : Int32) ≤ nI m := nI_ge (a := m) (b := 6) hm (by omega)
    have i1 := sp_ix hm (by decide)
    have eA : va_up (va_up (va_up (fun j => if j = 6 then cq_fl m (fun _ => 0) (a 6) else if j = 7 then cq_fl 6 (a 3) (a 7) else if j = 8 then cq_fl m (fun _ => 0) (a 8) else if j = 9 then cq_fl m (fun _ => 0) (a 9) else a j) 6 (cq_fl (m + 1) (fun _ => 0) (a 6))) 8 (cq_fl (m + 1) (fun _ => 0) (a 8))) 9 (cq_fl (m + 1) (fun _ => 0) (a 9)) = (fun j => if j = 6 then cq_fl (m + 1) (fun _ => 0) (a 6) else if j = 7 then cq_fl 6 (a 3) (a 7) else if j = 8 then cq_fl (m + 1) (fun _ => 0) (a 8) else if j = 9 then cq_fl (m + 1) (fun _ => 0) (a 9) else a j) := by
      funext j
      simp only [va_up]
      by_cases q9 : j = 9
      · simp only [q9, reduceIte, Nat.reduceEqDiff]
      · by_cases q8 : j = 8
        · simp only [q8, reduceIte, Nat.reduceEqDiff]
        · by_cases q6 : j = 6
          · simp only [q6, reduceIte, Nat.reduceEqDiff]
          · simp only [q9, q8, q6, if_false]
    have f6 := cq_fl_s (n := m) (F := fun _ => 0) (g := a 6)
    have f8 := cq_fl_s (n := m) (F := fun _ => 0) (g := a 8)
    have f9 := cq_fl_s (n := m) (F := fun _ => 0) (g := a 9)
    refine .inr ⟨(), trivial, ?_⟩
    rw [eb_95_43]
    simp only [jx_ns_r, jx_ns_n, jx_ns_q, jx_ns_i, jx_gl_0, jx_gl_s, if_true, if_false, ite_true, ite_false, eq_self, Bool.false_eq_true, List.length_cons, List.length_nil, Nat.zero_le, Nat.reduceAdd, Nat.reduceSub, Nat.reduceLeDiff, Nat.reduceLT, Nat.reduceEqDiff, Int.reduceToNat, reduceIte, xe_aload, jx_rv_r, jx_rv_n, jx_rv_q, xk_getf, jx_gf_i, jx_ov_s, ak_V, xe_sta2, jx_cc_i, jx_cc_v, Nat.reduceMod, Nat.reduceDiv, xe_iconst, xi_4, xx_4, xi_0, xx_0, xk_iast, ja_is, ak_S, ak_P, xi_5, xx_5, xi_m1, xi_6, xx_6, xi_7, xx_7, xe_istore, xe_goto_w, xk_iload, jx_iv_i, ak_I, xe_icmp_ge, xk_iinc, ak_C, xi_1, xe_goto, xe_return, jx_s1, List.set_cons_zero, List.set_cons_succ, jx_2_i, jx_2_l, jx_2_r, jx_2_n, jx_2_u, jx_2_s, jx_2_q, jx_k_i, jx_k_l, jx_k_r, jx_k_n, jx_k_u, jx_k_s, jx_k_q, tw_r, tw_f, tw_s, tq_r, tq_w, tw_wo, tw_wsc, tq_ile_u, tq_ilo_u, va_up_s, tw_w2, tw_w3, tw_w4, tw_w5, tw_w6, tw_w7, tw_w8, tw_w9, tw_w10, tw_w11, tw_w12, tw_w13, tw_w14, tw_w15, tw_w16, tw_w17, tw_w18, tw_w29, tw_w30, tw_w31, tw_w32, tw_w33, tw_w34, tw_w35, tw_w36, tw_w37, tw_w38, tw_w39, tw_w40, tw_w44, tw_w45, tw_w46, tw_w47, tw_w48, tw_w49, tw_w50, reduceIte, Nat.reduceEqDiff, h3, i1, f6, f8, f9, eA, nI_1]
  · intro _ _
    have h3 : (6 : Int32) ≤ nI 6 := by decide
    have eA : (fun j => if j = 6 then cq_fl 6 (fun _ => 0) (a 6) else if j = 7 then cq_fl 6 (a 3) (a 7) else if j = 8 then cq_fl 6 (fun _ => 0) (a 8) else if j = 9 then cq_fl 6 (fun _ => 0) (a 9) else a j) = cq_bgn a := rfl
    simp only [eb_95_43, eb_95_76, jx_ns_r, jx_ns_n, jx_ns_q, jx_ns_i, jx_gl_0, jx_gl_s, if_true, if_false, ite_true, ite_false, eq_self, Bool.false_eq_true, List.length_cons, List.length_nil, Nat.zero_le, Nat.reduceAdd, Nat.reduceSub, Nat.reduceLeDiff, Nat.reduceLT, Nat.reduceEqDiff, Int.reduceToNat, reduceIte, xe_aload, jx_rv_r, jx_rv_n, jx_rv_q, xk_getf, jx_gf_i, jx_ov_s, ak_V, xe_sta2, jx_cc_i, jx_cc_v, Nat.reduceMod, Nat.reduceDiv, xe_iconst, xi_4, xx_4, xi_0, xx_0, xk_iast, ja_is, ak_S, ak_P, xi_5, xx_5, xi_m1, xi_6, xx_6, xi_7, xx_7, xe_istore, xe_goto_w, xk_iload, jx_iv_i, ak_I, xe_icmp_ge, xk_iinc, ak_C, xi_1, xe_goto, xe_return, jx_s1, List.set_cons_zero, List.set_cons_succ, jx_2_i, jx_2_l, jx_2_r, jx_2_n, jx_2_u, jx_2_s, jx_2_q, jx_k_i, jx_k_l, jx_k_r, jx_k_n, jx_k_u, jx_k_s, jx_k_q, h3, eA]
/-- the rules that the twin read -/
def tq_rs (D : Nat) (Q : Nat → Nat → Int32) (Lr : Nat → (Nat → Int64) → Int64) (rm : Nat) : Prop := rm ≤ 6 ∧ ∀ k, k < rm → tq_lw D (nI k) Q (some (Lr k))
theorem tq_rs_lk {k : Nat} (h : tq_rs D Q Lr rm) (hk : k ≤ rm) : tq_lw D (nI k - 1) Q (sp_lk Lr k) := by
  rcases Nat.eq_zero_or_pos k with r | r
  · subst r
    show nI 0 - 1 = -1
    decide
  · have := h.2 (k - 1) (by omega)
    rw [sp_lk, if_neg (by omega)]
    have e : nI k - 1 = nI (k - 1) := by
      have := nI_pred (k - 1)
      rwa [Nat.sub_add_cancel r] at this
    rw [e]
    exact this
theorem tm_couldRule {k : Nat} {a1 : Nat → Nat → Int32} (iv : cq_iv s a day tm pm now) (hN : sp_nt s a nm) (al : tq_al a a1) (hK : tq_kp s a E Q) (hk : k ≤ rm) (hR : tq_rs (D + 2) Q Lr rm) :
    ∃ a' N' W' f, tq_al a a' ∧ tq_nf N N' ∧ (∀ n, n < 66 → f n = sp_hk Lr s a k n) ∧ jx_cr (d + D + 8) 147 [.ref 113, .int (nI k - 1)] (tw h s a1 E N Q W) = some (.inl (some (.int (sp_bl (sp_fit Lr s a nm k = true)))), tw h s a' E N' (va_up Q 47 f) W') := by
  have t6 := iv.2.2.2.2.1; have p6 := iv.2.2.2.2.2.2.1; have es := iv.2.2.2.2.2.1; have et := iv.2.2.2.1; have d12 := iv.2.2.1; have d1 := iv.2.1
  have ivb := cq_iv_bg iv
  have al5 : a1 5 = a 5 := al.1 5 (by omega)
  have ceb : cq_eq tm pm day (cq_bgs s) (cq_bgs s) (cq_bgn a) (cq_bgn a1) := by
    refine ⟨fun _ _ _ _ _ => rfl, fun k hk => ⟨?_, ?_, ?_⟩, fun k hk => ?_, fun k hk => ⟨?_, ?_, ?_, ?_, ?_⟩⟩
    · show a 0 k = a1 0 k
      rw [al.1 0 (by omega)]
    · show a 2 k = a1 2 k
      rw [al.1 2 (by omega)]
    · show cq_fl 6 (fun _ => 0) (a 6) k = cq_fl 6 (fun _ => 0) (a1 6) k
      rw [cq_fl_lt (by omega), cq_fl_lt (by omega)]
    · show a 1 k = a1 1 k
      rw [al.1 1 (by omega)]
    · show a 3 k = a1 3 k
      rw [al.1 3 (by omega)]
    · show a 4 k = a1 4 k
      rw [al.1 4 (by omega)]
    · show cq_fl 6 (a 3) (a 7) k = cq_fl 6 (a1 3) (a1 7) k
      rw [cq_fl_lt (by omega), cq_fl_lt (by omega), al.1 3 (by omega)]
    · show cq_fl 6 (fun _ => 0) (a 8) k = cq_fl 6 (fun _ => 0) (a1 8) k
      rw [cq_fl_lt (by omega), cq_fl_lt (by omega)]
    · show cq_fl 6 (fun _ => 0) (a 9) k = cq_fl 6 (fun _ => 0) (a1 9) k
      rw [cq_fl_lt (by omega), cq_fl_lt (by omega)]
  have obb : tq_ob a (cq_bgn a1) := fun j hj => by
    simp only [cq_bgn]
    rw [if_neg (by omega), if_neg (by omega), if_neg (by omega), if_neg (by omega)]
    exact al.1 j hj
  obtain ⟨a', N', W', f, h1, h2, hf, e⟩ := tm_laysCourse (d := d) (h := h) (s := cq_bgs s) (a := cq_bgn a1) (E := va_up E 1 (nI k - 1)) (N := N) (Q := Q) (W := W) (cq_iv_c ivb ceb) (by omega) obb hK (fun j hj => va_up_nj (by omega)) (tq_rs_lk hR hk)
  have hf2 : ∀ n, n < 66 → f n = sp_hk Lr s a k n := by
    intro n hn
    rw [hf n hn, sp_hk]
    exact ((cq_gn_c (n := n + 1) (Lo := sp_lk Lr k) ivb (by omega) ceb).1 8 (by decide) (by decide) (by decide) (by decide)).symm
  obtain ⟨e4, n10, hN⟩ := hN
  have a5 : a' 5 = a 5 := h1.1 5 (by omega)
  have fit : sp_ns a nm f ↔ sp_fit Lr s a nm k = true := by
    unfold sp_fit
    rw [dc_iff]
    unfold sp_ns
    refine forall_congr' fun i => forall_congr' fun hi => ?_
    obtain ⟨n, hn, e5⟩ := hN i hi
    rw [e5, nI_clamp (by omega), hf2 n (by omega)]
  have key := jx_lp (d := d + D + 7) (y := 147) (L := 18) (n := nm) (γ := Unit) (ls := fun m _ => [.ref 113, .int (nI k - 1), .int (nI m)]) (H := fun _ _ => tw h s a' E N' (va_up Q 47 f) W')
    (I := fun m _ => ∀ i, i < m → f (a 5 (2 * i)).toNatClampNeg = a 5 (2 * i + 1))
    (G := fun r => r = some (.inl (some (.int (sp_bl (sp_fit Lr s a nm k = true)))), tw h s a' E N' (va_up Q 47 f) W')) ?_ ?_ nm 0 () (by omega) (fun i hi => absurd hi (by omega))
  · rw [nI_0] at key
    refine ⟨a', N', W', f, h1, h2, hf2, ?_⟩
    simp only [cr_147, eb_147_0, jx_ns_r, jx_ns_n, jx_ns_q, jx_ns_i, jx_gl_0, jx_gl_s, if_true, if_false, ite_true, ite_false, eq_self, Bool.false_eq_true, List.length_cons, List.length_nil, Nat.zero_le, Nat.reduceAdd, Nat.reduceSub, Nat.reduceLeDiff, Nat.reduceLT, Nat.reduceEqDiff, Int.reduceToNat, reduceIte, xe_aload, jx_rv_r, jx_rv_n, jx_rv_q, xk_getf, jx_gf_i, jx_ov_s, ak_V, xe_iconst, xi_10, xx_10, xk_iload, jx_iv_i, ak_I, xk_iast, ja_is, ak_S, ak_P, xe_inv0, jx_cc_i, jx_cc_v, Nat.reduceMod, Nat.reduceDiv, jx_cl9_i, xi_0, xx_0, xe_istore, xe_goto_w, xi_8, xx_8, xk_iald, ja_ia, ak_A, true_or, or_true, xe_icmp_ge, xe_icmp_eq, xe_zreturn, xZ, xk_iinc, ak_C, xi_1, xe_goto, xx_1, jx_s1, List.set_cons_zero, List.set_cons_succ, jx_2_i, jx_2_l, jx_2_r, jx_2_n, jx_2_u, jx_2_s, jx_2_q, jx_k_i, jx_k_l, jx_k_r, jx_k_n, jx_k_u, jx_k_s, jx_k_q, tw_r, tw_f, tw_s, tq_r, tq_w, tw_wo, tw_wsc, tq_ile_u, tq_ilo_u, va_up_s, tw_w2, tw_w3, tw_w4, tw_w5, tw_w6, tw_w7, tw_w8, tw_w9, tw_w10, tw_w11, tw_w12, tw_w13, tw_w14, tw_w15, tw_w16, tw_w17, tw_w18, tw_w29, tw_w30, tw_w31, tw_w32, tw_w33, tw_w34, tw_w35, tw_w36, tw_w37, tw_w38, tw_w39, tw_w40, tw_w44, tw_w45, tw_w46, tw_w47, tw_w48, tw_w49, tw_w50, tm_begins, e]
    exact key
  · intro m _ hm hI
    have h3 : ¬ nI nm ≤ nI m := nI_ge hm (by omega)
    have i1 := sp_ix (show m < 10 by omega) (by decide)
    obtain ⟨n, hn, e5⟩ := hN m hm
    have i2 := sp_ix (show n < 66 by omega) (by decide)
    have c5 : (a 5 (2 * m)).toNatClampNeg = n := by rw [e5, nI_clamp (by omega)]
    by_cases r1 : f n = a 5 (2 * m + 1)
    · refine .inr ⟨(), fun i hi => ?_, ?_⟩
      · rcases (show i < m ∨ i = m by omega) with r | r
        · exact hI i r
        · subst r; rw [c5]; exact r1
      · rw [eb_147_18]
        simp only [eb_147_51, jx_ns_r, jx_ns_n, jx_ns_q, jx_ns_i, jx_gl_0, jx_gl_s, if_true, if_false, ite_true, ite_false, eq_self, Bool.false_eq_true, List.length_cons, List.length_nil, Nat.zero_le, Nat.reduceAdd, Nat.reduceSub, Nat.reduceLeDiff, Nat.reduceLT, Nat.reduceEqDiff, Int.reduceToNat, reduceIte, xe_aload, jx_rv_r, jx_rv_n, jx_rv_q, xk_getf, jx_gf_i, jx_ov_s, ak_V, xe_iconst, xi_10, xx_10, xk_iload, jx_iv_i, ak_I, xk_iast, ja_is, ak_S, ak_P, xe_inv0, jx_cc_i, jx_cc_v, Nat.reduceMod, Nat.reduceDiv, jx_cl9_i, xi_0, xx_0, xe_istore, xe_goto_w, xi_8, xx_8, xk_iald, ja_ia, ak_A, true_or, or_true, xe_icmp_ge, xe_icmp_eq, xe_zreturn, xZ, xk_iinc, ak_C, xi_1, xe_goto, xx_1, jx_s1, List.set_cons_zero, List.set_cons_succ, jx_2_i, jx_2_l, jx_2_r, jx_2_n, jx_2_u, jx_2_s, jx_2_q, jx_k_i, jx_k_l, jx_k_r, jx_k_n, jx_k_u, jx_k_s, jx_k_q, tw_r, tw_f, tq_r, va_up_s, e4, h3, i1, tq_ev, tq_od, a5, e5, i2, reduceIte, r1, nI_1]
    · refine .inl ?_
      rw [sp_bl_f (fun q => r1 (by have := fit.mpr q m hm; rw [c5] at this; exact this))]
      simp only [eb_147_18, jx_ns_r, jx_ns_n, jx_ns_q, jx_ns_i, jx_gl_0, jx_gl_s, if_true, if_false, ite_true, ite_false, eq_self, Bool.false_eq_true, List.length_cons, List.length_nil, Nat.zero_le, Nat.reduceAdd, Nat.reduceSub, Nat.reduceLeDiff, Nat.reduceLT, Nat.reduceEqDiff, Int.reduceToNat, reduceIte, xe_aload, jx_rv_r, jx_rv_n, jx_rv_q, xk_getf, jx_gf_i, jx_ov_s, ak_V, xe_iconst, xi_10, xx_10, xk_iload, jx_iv_i, ak_I, xk_iast, ja_is, ak_S, ak_P, xe_inv0, jx_cc_i, jx_cc_v, Nat.reduceMod, Nat.reduceDiv, jx_cl9_i, xi_0, xx_0, xe_istore, xe_goto_w, xi_8, xx_8, xk_iald, ja_ia, ak_A, true_or, or_true, xe_icmp_ge, xe_icmp_eq, xe_zreturn, xZ, xk_iinc, ak_C, xi_1, xe_goto, xx_1, jx_s1, List.set_cons_zero, List.set_cons_succ, jx_2_i, jx_2_l, jx_2_r, jx_2_n, jx_2_u, jx_2_s, jx_2_q, jx_k_i, jx_k_l, jx_k_r, jx_k_n, jx_k_u, jx_k_s, jx_k_q, tw_r, tw_f, tq_r, va_up_s, e4, h3, i1, tq_ev, tq_od, a5, e5, i2, reduceIte, r1]
  · intro _ hI
    have h3 : nI nm ≤ nI nm := (nI_leI (by omega) (by omega)).mpr (Nat.le_refl _)
    rw [sp_bl_t (fit.mp hI)]
    simp only [eb_147_18, eb_147_57, jx_ns_r, jx_ns_n, jx_ns_q, jx_ns_i, jx_gl_0, jx_gl_s, if_true, if_false, ite_true, ite_false, eq_self, Bool.false_eq_true, List.length_cons, List.length_nil, Nat.zero_le, Nat.reduceAdd, Nat.reduceSub, Nat.reduceLeDiff, Nat.reduceLT, Nat.reduceEqDiff, Int.reduceToNat, reduceIte, xe_aload, jx_rv_r, jx_rv_n, jx_rv_q, xk_getf, jx_gf_i, jx_ov_s, ak_V, xe_iconst, xi_10, xx_10, xk_iload, jx_iv_i, ak_I, xk_iast, ja_is, ak_S, ak_P, xe_inv0, jx_cc_i, jx_cc_v, Nat.reduceMod, Nat.reduceDiv, jx_cl9_i, xi_0, xx_0, xe_istore, xe_goto_w, xi_8, xx_8, xk_iald, ja_ia, ak_A, true_or, or_true, xe_icmp_ge, xe_icmp_eq, xe_zreturn, xZ, xk_iinc, ak_C, xi_1, xe_goto, xx_1, jx_s1, List.set_cons_zero, List.set_cons_succ, jx_2_i, jx_2_l, jx_2_r, jx_2_n, jx_2_u, jx_2_s, jx_2_q, jx_k_i, jx_k_l, jx_k_r, jx_k_n, jx_k_u, jx_k_s, jx_k_q, tw_r, tw_f, tq_r, va_up_s, e4, h3]
theorem tq_rs_Q {Q' : Nat → Nat → Int32} (h : tq_rs D Q Lr rm) (e : ∀ f, 30 ≤ f → f < 36 → Q' f = Q f) : tq_rs D Q' Lr rm := ⟨h.1, fun k hk => tq_lw_Q (h.2 k hk) e⟩
theorem tm_ruled0 (hq : ¬ (0 < s 0 ∧ 0 ≤ i.toInt64 ∧ i.toInt64 ≤ 1)) : jx_cr (d + 2) 148 [.ref 113, .int i] (tw h s a E N Q W) = some (.inl (some (.int (-3))), (tw h s a E N Q W)) := by
  by_cases q1 : 0 < s 0
  · have q2 : ¬ (0 ≤ i.toInt64 ∧ i.toInt64 ≤ 1) := fun r => hq ⟨q1, r⟩
    simp only [cr_148, eb_148_0, eb_148_17, jx_ns_r, jx_ns_n, jx_ns_q, jx_ns_i, jx_gl_0, jx_gl_s, if_true, if_false, ite_true, ite_false, eq_self, Bool.false_eq_true, List.length_cons, List.length_nil, Nat.zero_le, Nat.reduceAdd, Nat.reduceSub, Nat.reduceLeDiff, Nat.reduceLT, Nat.reduceEqDiff, Int.reduceToNat, reduceIte, xe_aload, jx_rv_r, jx_rv_n, jx_rv_q, xe_inv0, jx_cc_i, jx_cc_v, Nat.reduceMod, Nat.reduceDiv, jx_cl9_i, xe_ifeq, xk_iload, jx_iv_i, ak_I, xe_i2l, xe_lconst, xl_0, xl_1, xe_sta3, xe_ifne, xe_goto_w, xe_iconst, xi_m3, xe_ireturn, xi_0, xx_0, xe_istore, xi_m2, xi_m1, xk_getf, jx_gf_i, jx_ov_s, ak_V, xe_icmp_ge, xe_inv1, xe_goto, xk_iinc, ak_C, xi_1, jx_s1, List.set_cons_zero, List.set_cons_succ, jx_2_i, jx_2_l, jx_2_r, jx_2_n, jx_2_u, jx_2_s, jx_2_q, jx_k_i, jx_k_l, jx_k_r, jx_k_n, jx_k_u, jx_k_s, jx_k_q, tw_r, tw_f, tq_r, va_up_s, tm_isCourt, tq_inL, q1, q2, sp_10]
  · simp only [cr_148, eb_148_0, eb_148_17, jx_ns_r, jx_ns_n, jx_ns_q, jx_ns_i, jx_gl_0, jx_gl_s, if_true, if_false, ite_true, ite_false, eq_self, Bool.false_eq_true, List.length_cons, List.length_nil, Nat.zero_le, Nat.reduceAdd, Nat.reduceSub, Nat.reduceLeDiff, Nat.reduceLT, Nat.reduceEqDiff, Int.reduceToNat, reduceIte, xe_aload, jx_rv_r, jx_rv_n, jx_rv_q, xe_inv0, jx_cc_i, jx_cc_v, Nat.reduceMod, Nat.reduceDiv, jx_cl9_i, xe_ifeq, xk_iload, jx_iv_i, ak_I, xe_i2l, xe_lconst, xl_0, xl_1, xe_sta3, xe_ifne, xe_goto_w, xe_iconst, xi_m3, xe_ireturn, xi_0, xx_0, xe_istore, xi_m2, xi_m1, xk_getf, jx_gf_i, jx_ov_s, ak_V, xe_icmp_ge, xe_inv1, xe_goto, xk_iinc, ak_C, xi_1, jx_s1, List.set_cons_zero, List.set_cons_succ, jx_2_i, jx_2_l, jx_2_r, jx_2_n, jx_2_u, jx_2_s, jx_2_q, jx_k_i, jx_k_l, jx_k_r, jx_k_n, jx_k_u, jx_k_s, jx_k_q, tw_r, tw_f, tq_r, va_up_s, tm_isCourt, q1]
theorem tm_ruled (h0 : 0 < s 0) (iv : cq_iv s a day tm pm now) (hN : sp_nt s a nm) (hR : tq_rs (D + 2) Q Lr rm) (e23 : N 23 = nI rm) (hk : 0 ≤ k.toInt64 ∧ k.toInt64 ≤ 1) :
    tq_fin h s a E N Q (jx_cr (d + D + 9) 148 [.ref 113, .int k] (tw h s a E N Q W)) (sp_rdv (sp_fit Lr s a nm) rm k) := by
  have hrm := hR.1
  obtain ⟨N1, Q1, hN1, hQ1, hK, e1⟩ := tq_keep (d := d + D + 5) (h := h) (s := s) (a := a) (E := E) (N := N) (Q := Q) (W := W)
  have hR1 := tq_rs_Q hR (tq_qf_l hQ1)
  generalize eP : sp_fit Lr s a nm = P
  have key := jx_lp (d := d + D + 8) (y := 148) (L := 32) (n := rm + 1) (γ := (Nat → Nat → Int32) × (Nat → Int32) × (Nat → Int32) × (Nat → Nat → Int64)) (ls := fun m _ => [.ref 113, .int k, .int (ct P m 0), .int (match fd P m 0 with | none => -2 | some c => nI c - 1), .int (nI m - 1)]) (H := fun _ g => tw h s g.1 E g.2.1 (va_up Q1 47 g.2.2.1) g.2.2.2)
    (I := fun _ g => tq_al a g.1 ∧ tq_nf N g.2.1)
    (G := fun r => tq_fin h s a E N Q r (sp_rdv P rm k)) ?_ ?_ (rm + 1) 0 (a, N1, Q1 47, W) (by omega) ⟨tq_al_r, hN1⟩
  · obtain ⟨a', N', Q', W', h1, h2, h3, e⟩ := key
    refine ⟨a', N', Q', W', h1, h2, h3, ?_⟩
    have e0 : nI 0 - 1 = -1 := by decide
    simp only [ct, fd, e0, va_up_id] at e
    simp only [cr_148, eb_148_0, eb_148_20, jx_ns_r, jx_ns_n, jx_ns_q, jx_ns_i, jx_gl_0, jx_gl_s, if_true, if_false, ite_true, ite_false, eq_self, Bool.false_eq_true, List.length_cons, List.length_nil, Nat.zero_le, Nat.reduceAdd, Nat.reduceSub, Nat.reduceLeDiff, Nat.reduceLT, Nat.reduceEqDiff, Int.reduceToNat, reduceIte, xe_aload, jx_rv_r, jx_rv_n, jx_rv_q, xe_inv0, jx_cc_i, jx_cc_v, Nat.reduceMod, Nat.reduceDiv, jx_cl9_i, xe_ifeq, xk_iload, jx_iv_i, ak_I, xe_i2l, xe_lconst, xl_0, xl_1, xe_sta3, xe_ifne, xe_goto_w, xe_iconst, xi_m3, xe_ireturn, xi_0, xx_0, xe_istore, xi_m2, xi_m1, xk_getf, jx_gf_i, jx_ov_s, ak_V, xe_icmp_ge, xe_inv1, xe_goto, xk_iinc, ak_C, xi_1, jx_s1, List.set_cons_zero, List.set_cons_succ, jx_2_i, jx_2_l, jx_2_r, jx_2_n, jx_2_u, jx_2_s, jx_2_q, jx_k_i, jx_k_l, jx_k_r, jx_k_n, jx_k_u, jx_k_s, jx_k_q, tw_r, tw_f, tq_r, va_up_s, tm_isCourt, h0, tq_inL, hk, and_self, sp_10, e1]
    exact e
  · rintro m ⟨a1, N2, f, W1⟩ hm ⟨al, hN2⟩
    simp only at al hN2
    have h3 : ¬ nI rm ≤ nI m - 1 := by
      rw [Int32.not_le, Int32.lt_iff_toInt_lt, nI_toInt (by omega), show (1 : Int32) = nI 1 from rfl, pk_sub_toInt (by omega) (by omega)]
      omega
    have n23 : N2 23 = nI rm := (hN2 23 (by omega) (by omega) (by omega) (by omega)).trans e23
    obtain ⟨a2, N3, W2, f2, h1, h2, hf, e2⟩ := tm_couldRule (d := d) (h := h) (N := N2) (W := W1) (Q := va_up Q1 47 f) (k := m) iv hN al (tq_kp_up hK (by omega)) (show m ≤ rm by omega) (tq_rs_Q hR1 (fun f h1 h2 => va_up_nj (by omega)))
    rw [va_up_up, eP] at e2
    obtain ⟨c, hc, ec, hz⟩ := ct_n (P := P) m 0 (by omega)
    have em : nI m - 1 + 1 = nI (m + 1) - 1 := by
      rw [← nI_1, Int32.sub_add_cancel, Int32.add_sub_cancel]
    refine .inr ⟨(a2, N3, f2, W2), ⟨h1, tq_nf_t hN2 h2⟩, ?_⟩
    rw [ct_e, fd_e, Nat.zero_add, eb_148_32]
    by_cases r : P m = true
    · rw [sp_bl_t r] at e2
      rw [ec]
      cases ef : fd P m 0 with
      | none =>
        have c0 : c = 0 := hz.mpr ef
        have e0 : nI c = 0 := by rw [c0]; rfl
        simp only [eb_148_60, eb_148_64, jx_ns_r, jx_ns_n, jx_ns_q, jx_ns_i, jx_gl_0, jx_gl_s, if_true, if_false, ite_true, ite_false, eq_self, Bool.false_eq_true, List.length_cons, List.length_nil, Nat.zero_le, Nat.reduceAdd, Nat.reduceSub, Nat.reduceLeDiff, Nat.reduceLT, Nat.reduceEqDiff, Int.reduceToNat, reduceIte, xe_aload, jx_rv_r, jx_rv_n, jx_rv_q, xe_inv0, jx_cc_i, jx_cc_v, Nat.reduceMod, Nat.reduceDiv, jx_cl9_i, xe_ifeq, xk_iload, jx_iv_i, ak_I, xe_i2l, xe_lconst, xl_0, xl_1, xe_sta3, xe_ifne, xe_goto_w, xe_iconst, xi_m3, xe_ireturn, xi_0, xx_0, xe_istore, xi_m2, xi_m1, xk_getf, jx_gf_i, jx_ov_s, ak_V, xe_icmp_ge, xe_inv1, xe_goto, xk_iinc, ak_C, xi_1, jx_s1, List.set_cons_zero, List.set_cons_succ, jx_2_i, jx_2_l, jx_2_r, jx_2_n, jx_2_u, jx_2_s, jx_2_q, jx_k_i, jx_k_l, jx_k_r, jx_k_n, jx_k_u, jx_k_s, jx_k_q, tw_r, tw_f, tq_r, va_up_s, n23, h3, e2, sp_10, e0, r, em]
      | some z =>
        have c0 : ¬ nI c = 0 := nI_ne0 (by
          rcases Nat.eq_zero_or_pos c with q | q
          · rw [hz.mp q] at ef; cases ef
          · exact q) (by omega)
        simp only [eb_148_59, eb_148_60, eb_148_64, jx_ns_r, jx_ns_n, jx_ns_q, jx_ns_i, jx_gl_0, jx_gl_s, if_true, if_false, ite_true, ite_false, eq_self, Bool.false_eq_true, List.length_cons, List.length_nil, Nat.zero_le, Nat.reduceAdd, Nat.reduceSub, Nat.reduceLeDiff, Nat.reduceLT, Nat.reduceEqDiff, Int.reduceToNat, reduceIte, xe_aload, jx_rv_r, jx_rv_n, jx_rv_q, xe_inv0, jx_cc_i, jx_cc_v, Nat.reduceMod, Nat.reduceDiv, jx_cl9_i, xe_ifeq, xk_iload, jx_iv_i, ak_I, xe_i2l, xe_lconst, xl_0, xl_1, xe_sta3, xe_ifne, xe_goto_w, xe_iconst, xi_m3, xe_ireturn, xi_0, xx_0, xe_istore, xi_m2, xi_m1, xk_getf, jx_gf_i, jx_ov_s, ak_V, xe_icmp_ge, xe_inv1, xe_goto, xk_iinc, ak_C, xi_1, jx_s1, List.set_cons_zero, List.set_cons_succ, jx_2_i, jx_2_l, jx_2_r, jx_2_n, jx_2_u, jx_2_s, jx_2_q, jx_k_i, jx_k_l, jx_k_r, jx_k_n, jx_k_u, jx_k_s, jx_k_q, tw_r, tw_f, tq_r, va_up_s, n23, h3, e2, sp_10, c0, r, em]
    · rw [sp_bl_f r] at e2
      have a0 : ∀ y : Int32, y + 0 = y := Int32.add_zero
      cases ef : fd P m 0 with
      | none => simp only [eb_148_64, jx_ns_r, jx_ns_n, jx_ns_q, jx_ns_i, jx_gl_0, jx_gl_s, if_true, if_false, ite_true, ite_false, eq_self, Bool.false_eq_true, List.length_cons, List.length_nil, Nat.zero_le, Nat.reduceAdd, Nat.reduceSub, Nat.reduceLeDiff, Nat.reduceLT, Nat.reduceEqDiff, Int.reduceToNat, reduceIte, xe_aload, jx_rv_r, jx_rv_n, jx_rv_q, xe_inv0, jx_cc_i, jx_cc_v, Nat.reduceMod, Nat.reduceDiv, jx_cl9_i, xe_ifeq, xk_iload, jx_iv_i, ak_I, xe_i2l, xe_lconst, xl_0, xl_1, xe_sta3, xe_ifne, xe_goto_w, xe_iconst, xi_m3, xe_ireturn, xi_0, xx_0, xe_istore, xi_m2, xi_m1, xk_getf, jx_gf_i, jx_ov_s, ak_V, xe_icmp_ge, xe_inv1, xe_goto, xk_iinc, ak_C, xi_1, jx_s1, List.set_cons_zero, List.set_cons_succ, jx_2_i, jx_2_l, jx_2_r, jx_2_n, jx_2_u, jx_2_s, jx_2_q, jx_k_i, jx_k_l, jx_k_r, jx_k_n, jx_k_u, jx_k_s, jx_k_q, tw_r, tw_f, tq_r, va_up_s, n23, h3, e2, r, a0, em, Bool.false_eq_true]
      | some z => simp only [eb_148_64, jx_ns_r, jx_ns_n, jx_ns_q, jx_ns_i, jx_gl_0, jx_gl_s, if_true, if_false, ite_true, ite_false, eq_self, Bool.false_eq_true, List.length_cons, List.length_nil, Nat.zero_le, Nat.reduceAdd, Nat.reduceSub, Nat.reduceLeDiff, Nat.reduceLT, Nat.reduceEqDiff, Int.reduceToNat, reduceIte, xe_aload, jx_rv_r, jx_rv_n, jx_rv_q, xe_inv0, jx_cc_i, jx_cc_v, Nat.reduceMod, Nat.reduceDiv, jx_cl9_i, xe_ifeq, xk_iload, jx_iv_i, ak_I, xe_i2l, xe_lconst, xl_0, xl_1, xe_sta3, xe_ifne, xe_goto_w, xe_iconst, xi_m3, xe_ireturn, xi_0, xx_0, xe_istore, xi_m2, xi_m1, xk_getf, jx_gf_i, jx_ov_s, ak_V, xe_icmp_ge, xe_inv1, xe_goto, xk_iinc, ak_C, xi_1, jx_s1, List.set_cons_zero, List.set_cons_succ, jx_2_i, jx_2_l, jx_2_r, jx_2_n, jx_2_u, jx_2_s, jx_2_q, jx_k_i, jx_k_l, jx_k_r, jx_k_n, jx_k_u, jx_k_s, jx_k_q, tw_r, tw_f, tq_r, va_up_s, n23, h3, e2, r, a0, em, Bool.false_eq_true]
  · rintro ⟨a1, N2, f, W1⟩ ⟨al, hN2⟩
    simp only at al hN2
    have n23 : N2 23 = nI rm := (hN2 23 (by omega) (by omega) (by omega) (by omega)).trans e23
    have h3 : nI rm ≤ nI (rm + 1) - 1 := by
      rw [← nI_1, Int32.add_sub_cancel]
      exact (nI_leI (by omega) (by omega)).mpr (Nat.le_refl _)
    refine ⟨a1, N2, va_up Q1 47 f, W1, al, hN2, tq_qf_t hQ1 (tq_qf_up (by omega)), ?_⟩
    by_cases r : k = 0
    · simp only [eb_148_32, eb_148_70, eb_148_78, eb_148_79, jx_ns_r, jx_ns_n, jx_ns_q, jx_ns_i, jx_gl_0, jx_gl_s, if_true, if_false, ite_true, ite_false, eq_self, Bool.false_eq_true, List.length_cons, List.length_nil, Nat.zero_le, Nat.reduceAdd, Nat.reduceSub, Nat.reduceLeDiff, Nat.reduceLT, Nat.reduceEqDiff, Int.reduceToNat, reduceIte, xe_aload, jx_rv_r, jx_rv_n, jx_rv_q, xe_inv0, jx_cc_i, jx_cc_v, Nat.reduceMod, Nat.reduceDiv, jx_cl9_i, xe_ifeq, xk_iload, jx_iv_i, ak_I, xe_i2l, xe_lconst, xl_0, xl_1, xe_sta3, xe_ifne, xe_goto_w, xe_iconst, xi_m3, xe_ireturn, xi_0, xx_0, xe_istore, xi_m2, xi_m1, xk_getf, jx_gf_i, jx_ov_s, ak_V, xe_icmp_ge, xe_inv1, xe_goto, xk_iinc, ak_C, xi_1, jx_s1, List.set_cons_zero, List.set_cons_succ, jx_2_i, jx_2_l, jx_2_r, jx_2_n, jx_2_u, jx_2_s, jx_2_q, jx_k_i, jx_k_l, jx_k_r, jx_k_n, jx_k_u, jx_k_s, jx_k_q, tw_r, tw_f, tq_r, va_up_s, n23, h3, r, sp_rdv]
    · rw [sp_rdv, if_neg r]
      cases ef : fd P (rm + 1) 0 <;> simp only [eb_148_32, eb_148_70, eb_148_78, eb_148_79, jx_ns_r, jx_ns_n, jx_ns_q, jx_ns_i, jx_gl_0, jx_gl_s, if_true, if_false, ite_true, ite_false, eq_self, Bool.false_eq_true, List.length_cons, List.length_nil, Nat.zero_le, Nat.reduceAdd, Nat.reduceSub, Nat.reduceLeDiff, Nat.reduceLT, Nat.reduceEqDiff, Int.reduceToNat, reduceIte, xe_aload, jx_rv_r, jx_rv_n, jx_rv_q, xe_inv0, jx_cc_i, jx_cc_v, Nat.reduceMod, Nat.reduceDiv, jx_cl9_i, xe_ifeq, xk_iload, jx_iv_i, ak_I, xe_i2l, xe_lconst, xl_0, xl_1, xe_sta3, xe_ifne, xe_goto_w, xe_iconst, xi_m3, xe_ireturn, xi_0, xx_0, xe_istore, xi_m2, xi_m1, xk_getf, jx_gf_i, jx_ov_s, ak_V, xe_icmp_ge, xe_inv1, xe_goto, xk_iinc, ak_C, xi_1, jx_s1, List.set_cons_zero, List.set_cons_succ, jx_2_i, jx_2_l, jx_2_r, jx_2_n, jx_2_u, jx_2_s, jx_2_q, jx_k_i, jx_k_l, jx_k_r, jx_k_n, jx_k_u, jx_k_s, jx_k_q, tw_r, tw_f, tq_r, va_up_s, n23, h3, r]
end TN
