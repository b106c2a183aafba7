/-! THE TWIN: mostAlike, look -/
set_option maxRecDepth 100000
/-- how many of the first m numbers -/
def cN (P : Nat → Bool) : Nat → Nat
  | 0 => 0
  | m + 1 => cN P m + (if P m = true then 1 else 0)
theorem cN_le {P : Nat → Bool} : ∀ m, cN P m ≤ m := by
  intro m
  induction m with
  | zero => exact Nat.le_refl _
  | succ m ih =>
    rw [cN]
    split <;> omega
theorem cN_ct {P : Nat → Bool} : ∀ m, ct P m 0 = nI (cN P m) := by
  intro m
  induction m with
  | zero => rfl
  | succ m ih =>
    rw [ct_e, ih, cN, Nat.zero_add]
    split
    · exact nI_1 _
    · exact Int32.add_zero _
theorem cN_ex {P : Nat → Bool} : ∀ m, 0 < cN P m → ∃ i, i < m ∧ P i = true := by
  intro m
  induction m with
  | zero => intro h; exact absurd h (Nat.lt_irrefl 0)
  | succ m ih =>
    intro h
    rw [cN] at h
    by_cases r : P m = true
    · exact ⟨m, by omega, r⟩
    · rw [if_neg r] at h
      obtain ⟨i, h1, h2⟩ := ih h
      exact ⟨i, by omega, h2⟩
theorem cN_pos {P : Nat → Bool} {i : Nat} : ∀ m, i < m → P i = true → 0 < cN P m := by
  intro m
  induction m with
  | zero => intro h; omega
  | succ m ih =>
    intro h hp
    rw [cN]
    rcases (show i < m ∨ i = m by omega) with r | r
    · have := ih r hp; omega
    · subst r; rw [if_pos hp]; omega
theorem cN_c {P Q : Nat → Bool} : ∀ m, (∀ k, k < m → P k = Q k) → cN P m = cN Q m := by
  intro m
  induction m with
  | zero => intro _; rfl
  | succ m ih =>
    intro h
    rw [cN, cN, ih (fun k hk => h k (by omega)), h m (by omega)]
theorem mx_c {f : Nat → Int32} {F : Nat → Nat} : ∀ n, (∀ i, i < n → f i = nI (F i) ∧ F i < 100) → ∃ M, M < 100 ∧ sp_mx f n = nI M ∧ (∀ i, i < n → F i ≤ M) ∧ (M = 0 ∨ ∃ i, i < n ∧ F i = M) := by
  intro n
  induction n with
  | zero => intro _; exact ⟨0, by omega, rfl, fun i hi => absurd hi (by omega), .inl rfl⟩
  | succ n ih =>
    intro h
    obtain ⟨M, hM, e, h1, h2⟩ := ih (fun i hi => h i (by omega))
    obtain ⟨e2, h3⟩ := h n (by omega)
    rw [sp_mx, e, e2]
    by_cases r : M < F n
    · rw [if_pos (nI_lt r (by omega))]
      exact ⟨F n, h3, rfl, fun i hi => by rcases (show i < n ∨ i = n by omega) with q | q; { have := h1 i q; omega }; { subst q; exact Nat.le_refl _ }, .inr ⟨n, by omega, rfl⟩⟩
    · rw [if_neg (nI_nlt (by omega) (by omega))]
      refine ⟨M, hM, rfl, fun i hi => ?_, h2.elim .inl (fun ⟨i, h4, h5⟩ => .inr ⟨i, by omega, h5⟩)⟩
      rcases (show i < n ∨ i = n by omega) with q | q
      · exact h1 i q
      · subst q; omega
/-- the most alike among c rows g -/
def tq_mo (g : Nat → Int32) (c : Nat) : Int32 := sp_mx (fun i => ct (fun k => decide (g k = g i)) c 0) c
theorem tq_mo_ai {g : Nat → Int32} {c m tm n : Nat} {P : Nat → Bool} {f : Nat → Nat → Int32} (hc : c ≤ 7) (hm : m ≤ 6) (hA : ∀ v, cN (fun k => P k && decide (f k n = v)) (m + 1) = cN (fun i => decide (g i = v)) c) (hB : ∀ i, i < c → ∃ j, j ≤ tm ∧ g i = nI j - 1) : tq_mo g c = sp_ai P f m tm n := by
  obtain ⟨M1, b1, e1, l1, x1⟩ := mx_c (f := fun i => ct (fun k => decide (g k = g i)) c 0) (F := fun i => cN (fun k => decide (g k = g i)) c) c (fun i hi => ⟨cN_ct c, by have := cN_le (P := fun k => decide (g k = g i)) c; omega⟩)
  obtain ⟨M2, b2, e2, l2, x2⟩ := mx_c (f := fun j => ct (fun k => P k && decide (f k n = nI j - 1)) (m + 1) 0) (F := fun j => cN (fun k => P k && decide (f k n = nI j - 1)) (m + 1)) (tm + 1) (fun j hj => ⟨cN_ct (m + 1), by have := cN_le (P := fun k => P k && decide (f k n = nI j - 1)) (m + 1); omega⟩)
  rw [tq_mo, sp_ai, e1, e2]
  have h12 : M1 ≤ M2 := by
    rcases x1 with r | ⟨i, hi, r⟩
    · omega
    · obtain ⟨j, hj, e⟩ := hB i hi
      have := l2 j (by omega)
      rw [hA, ← e] at this
      omega
  have h21 : M2 ≤ M1 := by
    rcases Nat.eq_zero_or_pos M2 with r | r
    · omega
    · rcases x2 with r2 | ⟨j, hj, r2⟩
      · omega
      · rw [hA] at r2
        obtain ⟨i, hi, e⟩ := cN_ex c (by rw [r2]; exact r)
        have e := of_decide_eq_true e
        have := l1 i hi
        rw [e] at this
        omega
  rw [Nat.le_antisymm h12 h21]
section TO
variable {d : Nat} {h : jx_H} {s : Nat → Int32} {a : Nat → Nat → Int32} {E N : Nat → Int32} {Q : Nat → Nat → Int32} {W : Nat → Nat → Int64} {i k : Int32} {t u v tm pm day now D n m : Nat} {Lo : Option ((Nat → Int64) → Int64)}
variable {nm rm : Nat} {Lr : Nat → (Nat → Int64) → Int64} {c : Nat}
theorem tm_mostAlike (hv : v ≤ 60) (hc : c ≤ 7) : jx_cr (d + 1) 149 [.ref 113, .int (nI v), .int (nI c)] (tw h s a E N Q W) = some (.inl (some (.int (tq_mo (fun i => Q 48 (61 * i + v)) c))), (tw h s a E N Q W)) := by
  generalize eg : (fun i => Q 48 (61 * i + v)) = g
  have hg : ∀ i, Q 48 (61 * i + v) = g i := fun i => congrFun eg i
  have key := jx_lp (d := d) (y := 149) (L := 5) (n := c) (γ := Value × Value) (ls := fun m z => [.ref 113, .int (nI v), .int (nI c), .int (sp_mx (fun i => ct (fun k => decide (g k = g i)) c 0) m), .int (nI m), z.1, z.2]) (H := fun _ _ => (tw h s a E N Q W))
    (I := fun m z => (z = (jx_un, jx_un) ∨ ∃ v v', z = (.int v, .int v')))
    (G := fun r => r = some (.inl (some (.int (tq_mo g c))), (tw h s a E N Q W))) ?_ ?_ c 0 (jx_un, jx_un) (by omega) (.inl rfl)
  · simp only [sp_mx, nI_0] at key
    simp only [cr_149, eb_149_0, jx_ns_r, jx_ns_n, jx_ns_q, jx_ns_i, jx_gl_0, jx_gl_s, if_true, if_false, ite_true, ite_false, eq_self, Bool.false_eq_true, List.length_cons, List.length_nil, Nat.zero_le, Nat.reduceAdd, Nat.reduceSub, Nat.reduceLeDiff, Nat.reduceLT, Nat.reduceEqDiff, Int.reduceToNat, reduceIte, xe_iconst, xi_0, xx_0, xe_istore, xe_goto_w, xk_iload, jx_iv_i, ak_I, xe_icmp_ge, xe_aload, jx_rv_r, jx_rv_n, jx_rv_q, xk_getf, jx_gf_i, jx_ov_s, ak_V, xi_61, xe_imul, xe_iadd, xk_iald, ja_ia, ak_A, true_or, or_true, xe_icmp_ne, xi_1, xx_1, xe_goto, xk_iinc, ak_C, xe_icmp_le, xe_ireturn, jx_s1, List.set_cons_zero, List.set_cons_succ, jx_2_i, jx_2_l, jx_2_r, jx_2_n, jx_2_u, jx_2_s, jx_2_q, jx_k_i, jx_k_l, jx_k_r, jx_k_n, jx_k_u, jx_k_s, jx_k_q]
    exact key
  · intro m z hm hz
    have h3 : ¬ nI c ≤ nI m := nI_ge hm (by omega)
    have i1 := sp_ix (show 61 * m + v < 427 by omega) (by decide)
    generalize eb : sp_mx (fun i => ct (fun k => decide (g k = g i)) c 0) m = b
    have inner := jx_lp (d := d) (y := 149) (L := 17) (n := c) (γ := Unit) (ls := fun u _ => [.ref 113, .int (nI v), .int (nI c), .int b, .int (nI m), .int (ct (fun k => decide (g k = g m)) u 0), .int (nI u)]) (H := fun _ _ => (tw h s a E N Q W))
      (I := fun _ _ => True)
      (G := fun r => r = jx_eb d 149 66 [.ref 113, .int (nI v), .int (nI c), .int b, .int (nI m), .int (ct (fun k => decide (g k = g m)) c 0), .int (nI c)] [] (tw h s a E N Q W)) ?_ ?_ c 0 () (by omega) trivial
    · refine .inr ⟨(.int (ct (fun k => decide (g k = g m)) c 0), .int (nI c)), .inr ⟨_, _, rfl⟩, ?_⟩
      have e0 : jx_eb d 149 5 [.ref 113, .int (nI v), .int (nI c), .int b, .int (nI m), z.1, z.2] [] (tw h s a E N Q W) = jx_eb d 149 17 [.ref 113, .int (nI v), .int (nI c), .int b, .int (nI m), .int 0, .int 0] [] (tw h s a E N Q W) := by
        rcases hz with hz | ⟨v', v2, hz⟩ <;> subst hz <;> simp only [eb_149_5, jx_ns_r, jx_ns_n, jx_ns_q, jx_ns_i, jx_gl_0, jx_gl_s, if_true, if_false, ite_true, ite_false, eq_self, Bool.false_eq_true, List.length_cons, List.length_nil, Nat.zero_le, Nat.reduceAdd, Nat.reduceSub, Nat.reduceLeDiff, Nat.reduceLT, Nat.reduceEqDiff, Int.reduceToNat, reduceIte, xe_iconst, xi_0, xx_0, xe_istore, xe_goto_w, xk_iload, jx_iv_i, ak_I, xe_icmp_ge, xe_aload, jx_rv_r, jx_rv_n, jx_rv_q, xk_getf, jx_gf_i, jx_ov_s, ak_V, xi_61, xe_imul, xe_iadd, xk_iald, ja_ia, ak_A, true_or, or_true, xe_icmp_ne, xi_1, xx_1, xe_goto, xk_iinc, ak_C, xe_icmp_le, xe_ireturn, jx_s1, List.set_cons_zero, List.set_cons_succ, jx_2_i, jx_2_l, jx_2_r, jx_2_n, jx_2_u, jx_2_s, jx_2_q, jx_k_i, jx_k_l, jx_k_r, jx_k_n, jx_k_u, jx_k_s, jx_k_q, h3]
      have c0 : ct (fun k => decide (g k = g m)) 0 0 = 0 := rfl
      simp only [c0, nI_0] at inner
      refine e0.trans (inner.trans ?_)
      have hle : ct (fun k => decide (g k = g m)) c 0 ≤ b ↔ ¬ b < ct (fun k => decide (g k = g m)) c 0 := Int32.not_lt.symm
      rw [sp_mx, eb]
      generalize ct (fun k => decide (g k = g m)) c 0 = C at hle ⊢
      by_cases r : b < C <;> simp only [eb_149_66, eb_149_77, eb_149_78, jx_ns_r, jx_ns_n, jx_ns_q, jx_ns_i, jx_gl_0, jx_gl_s, if_true, if_false, ite_true, ite_false, eq_self, Bool.false_eq_true, List.length_cons, List.length_nil, Nat.zero_le, Nat.reduceAdd, Nat.reduceSub, Nat.reduceLeDiff, Nat.reduceLT, Nat.reduceEqDiff, Int.reduceToNat, reduceIte, xe_iconst, xi_0, xx_0, xe_istore, xe_goto_w, xk_iload, jx_iv_i, ak_I, xe_icmp_ge, xe_aload, jx_rv_r, jx_rv_n, jx_rv_q, xk_getf, jx_gf_i, jx_ov_s, ak_V, xi_61, xe_imul, xe_iadd, xk_iald, ja_ia, ak_A, true_or, or_true, xe_icmp_ne, xi_1, xx_1, xe_goto, xk_iinc, ak_C, xe_icmp_le, xe_ireturn, jx_s1, List.set_cons_zero, List.set_cons_succ, jx_2_i, jx_2_l, jx_2_r, jx_2_n, jx_2_u, jx_2_s, jx_2_q, jx_k_i, jx_k_l, jx_k_r, jx_k_n, jx_k_u, jx_k_s, jx_k_q, hle, r, not_true, not_false_eq_true, nI_1]
    · intro u _ hu _
      have h4 : ¬ nI c ≤ nI u := nI_ge hu (by omega)
      have i2 := sp_ix (show 61 * u + v < 427 by omega) (by decide)
      refine .inr ⟨(), trivial, ?_⟩
      rw [ct_e, Nat.zero_add, eb_149_17]
      by_cases r : g u = g m
      · rw [if_pos (decide_eq_true r)]
        simp only [eb_149_57, jx_ns_r, jx_ns_n, jx_ns_q, jx_ns_i, jx_gl_0, jx_gl_s, if_true, if_false, ite_true, ite_false, eq_self, Bool.false_eq_true, List.length_cons, List.length_nil, Nat.zero_le, Nat.reduceAdd, Nat.reduceSub, Nat.reduceLeDiff, Nat.reduceLT, Nat.reduceEqDiff, Int.reduceToNat, reduceIte, xe_iconst, xi_0, xx_0, xe_istore, xe_goto_w, xk_iload, jx_iv_i, ak_I, xe_icmp_ge, xe_aload, jx_rv_r, jx_rv_n, jx_rv_q, xk_getf, jx_gf_i, jx_ov_s, ak_V, xi_61, xe_imul, xe_iadd, xk_iald, ja_ia, ak_A, true_or, or_true, xe_icmp_ne, xi_1, xx_1, xe_goto, xk_iinc, ak_C, xe_icmp_le, xe_ireturn, jx_s1, List.set_cons_zero, List.set_cons_succ, jx_2_i, jx_2_l, jx_2_r, jx_2_n, jx_2_u, jx_2_s, jx_2_q, jx_k_i, jx_k_l, jx_k_r, jx_k_n, jx_k_u, jx_k_s, jx_k_q, tw_r, tw_f, tq_r, va_up_s, h4, sp_m61, i1, i2, hg, r, nI_1]
      · rw [if_neg (fun q => r (of_decide_eq_true q))]
        simp only [eb_149_56, eb_149_57, jx_ns_r, jx_ns_n, jx_ns_q, jx_ns_i, jx_gl_0, jx_gl_s, if_true, if_false, ite_true, ite_false, eq_self, Bool.false_eq_true, List.length_cons, List.length_nil, Nat.zero_le, Nat.reduceAdd, Nat.reduceSub, Nat.reduceLeDiff, Nat.reduceLT, Nat.reduceEqDiff, Int.reduceToNat, reduceIte, xe_iconst, xi_0, xx_0, xe_istore, xe_goto_w, xk_iload, jx_iv_i, ak_I, xe_icmp_ge, xe_aload, jx_rv_r, jx_rv_n, jx_rv_q, xk_getf, jx_gf_i, jx_ov_s, ak_V, xi_61, xe_imul, xe_iadd, xk_iald, ja_ia, ak_A, true_or, or_true, xe_icmp_ne, xi_1, xx_1, xe_goto, xk_iinc, ak_C, xe_icmp_le, xe_ireturn, jx_s1, List.set_cons_zero, List.set_cons_succ, jx_2_i, jx_2_l, jx_2_r, jx_2_n, jx_2_u, jx_2_s, jx_2_q, jx_k_i, jx_k_l, jx_k_r, jx_k_n, jx_k_u, jx_k_s, jx_k_q, tw_r, tw_f, tq_r, va_up_s, h4, sp_m61, i1, i2, hg, r, nI_1]
    · intro _ _
      have h4 : nI c ≤ nI c := (nI_leI (by omega) (by omega)).mpr (Nat.le_refl _)
      simp only [eb_149_17, jx_ns_r, jx_ns_n, jx_ns_q, jx_ns_i, jx_gl_0, jx_gl_s, if_true, if_false, ite_true, ite_false, eq_self, Bool.false_eq_true, List.length_cons, List.length_nil, Nat.zero_le, Nat.reduceAdd, Nat.reduceSub, Nat.reduceLeDiff, Nat.reduceLT, Nat.reduceEqDiff, Int.reduceToNat, reduceIte, xe_iconst, xi_0, xx_0, xe_istore, xe_goto_w, xk_iload, jx_iv_i, ak_I, xe_icmp_ge, xe_aload, jx_rv_r, jx_rv_n, jx_rv_q, xk_getf, jx_gf_i, jx_ov_s, ak_V, xi_61, xe_imul, xe_iadd, xk_iald, ja_ia, ak_A, true_or, or_true, xe_icmp_ne, xi_1, xx_1, xe_goto, xk_iinc, ak_C, xe_icmp_le, xe_ireturn, jx_s1, List.set_cons_zero, List.set_cons_succ, jx_2_i, jx_2_l, jx_2_r, jx_2_n, jx_2_u, jx_2_s, jx_2_q, jx_k_i, jx_k_l, jx_k_r, jx_k_n, jx_k_u, jx_k_s, jx_k_q, h4]
  · intro z hz
    have h3 : nI c ≤ nI c := (nI_leI (by omega) (by omega)).mpr (Nat.le_refl _)
    rw [tq_mo]
    simp only [eb_149_5, eb_149_85, jx_ns_r, jx_ns_n, jx_ns_q, jx_ns_i, jx_gl_0, jx_gl_s, if_true, if_false, ite_true, ite_false, eq_self, Bool.false_eq_true, List.length_cons, List.length_nil, Nat.zero_le, Nat.reduceAdd, Nat.reduceSub, Nat.reduceLeDiff, Nat.reduceLT, Nat.reduceEqDiff, Int.reduceToNat, reduceIte, xe_iconst, xi_0, xx_0, xe_istore, xe_goto_w, xk_iload, jx_iv_i, ak_I, xe_icmp_ge, xe_aload, jx_rv_r, jx_rv_n, jx_rv_q, xk_getf, jx_gf_i, jx_ov_s, ak_V, xi_61, xe_imul, xe_iadd, xk_iald, ja_ia, ak_A, true_or, or_true, xe_icmp_ne, xi_1, xx_1, xe_goto, xk_iinc, ak_C, xe_icmp_le, xe_ireturn, jx_s1, List.set_cons_zero, List.set_cons_succ, jx_2_i, jx_2_l, jx_2_r, jx_2_n, jx_2_u, jx_2_s, jx_2_q, jx_k_i, jx_k_l, jx_k_r, jx_k_n, jx_k_u, jx_k_s, jx_k_q, h3]
theorem tm_look0 (hq : ¬ (0 < s 0 ∧ 0 ≤ i.toInt64 ∧ i.toInt64 ≤ 1)) : jx_cr (d + 2) 150 [.ref 113, .int i] (tw h s a E N Q W) = some (.inl (some (.int (-1))), (tw h s a E N Q W)) := by
  by_cases q1 : 0 < s 0
  · have q2 : ¬ (0 ≤ i.toInt64 ∧ i.toInt64 ≤ 1) := fun r => hq ⟨q1, r⟩
    simp only [cr_150, eb_150_0, eb_150_17, jx_ns_r, jx_ns_n, jx_ns_q, jx_ns_i, jx_gl_0, jx_gl_s, if_true, if_false, ite_true, ite_false, eq_self, Bool.false_eq_true, List.length_cons, List.length_nil, Nat.zero_le, Nat.reduceAdd, Nat.reduceSub, Nat.reduceLeDiff, Nat.reduceLT, Nat.reduceEqDiff, Int.reduceToNat, reduceIte, xe_aload, jx_rv_r, jx_rv_n, jx_rv_q, xe_inv0, jx_cc_i, jx_cc_v, Nat.reduceMod, Nat.reduceDiv, jx_cl9_i, xe_ifeq, xk_iload, jx_iv_i, ak_I, xe_i2l, xe_lconst, xl_0, xl_1, xe_sta3, xe_ifne, xe_goto_w, xe_iconst, xi_m1, xe_ireturn, xi_0, xx_0, xe_istore, xk_getf, jx_gf_i, jx_ov_s, ak_V, xe_icmp_ge, xe_inv1, xi_60, xe_icmp_gt, xi_61, xe_imul, xe_iadd, xk_iald, ja_ia, ak_A, true_or, or_true, xk_iast, ja_is, ak_S, ak_P, xk_iinc, ak_C, xi_1, xe_goto, xi_m2, xx_1, xe_inv2, jx_s1, List.set_cons_zero, List.set_cons_succ, jx_2_i, jx_2_l, jx_2_r, jx_2_n, jx_2_u, jx_2_s, jx_2_q, jx_k_i, jx_k_l, jx_k_r, jx_k_n, jx_k_u, jx_k_s, jx_k_q, tw_r, tw_f, tq_r, va_up_s, tm_isCourt, tq_inL, q1, q2, sp_10]
  · simp only [cr_150, eb_150_0, eb_150_17, jx_ns_r, jx_ns_n, jx_ns_q, jx_ns_i, jx_gl_0, jx_gl_s, if_true, if_false, ite_true, ite_false, eq_self, Bool.false_eq_true, List.length_cons, List.length_nil, Nat.zero_le, Nat.reduceAdd, Nat.reduceSub, Nat.reduceLeDiff, Nat.reduceLT, Nat.reduceEqDiff, Int.reduceToNat, reduceIte, xe_aload, jx_rv_r, jx_rv_n, jx_rv_q, xe_inv0, jx_cc_i, jx_cc_v, Nat.reduceMod, Nat.reduceDiv, jx_cl9_i, xe_ifeq, xk_iload, jx_iv_i, ak_I, xe_i2l, xe_lconst, xl_0, xl_1, xe_sta3, xe_ifne, xe_goto_w, xe_iconst, xi_m1, xe_ireturn, xi_0, xx_0, xe_istore, xk_getf, jx_gf_i, jx_ov_s, ak_V, xe_icmp_ge, xe_inv1, xi_60, xe_icmp_gt, xi_61, xe_imul, xe_iadd, xk_iald, ja_ia, ak_A, true_or, or_true, xk_iast, ja_is, ak_S, ak_P, xk_iinc, ak_C, xi_1, xe_goto, xi_m2, xx_1, xe_inv2, jx_s1, List.set_cons_zero, List.set_cons_succ, jx_2_i, jx_2_l, jx_2_r, jx_2_n, jx_2_u, jx_2_s, jx_2_q, jx_k_i, jx_k_l, jx_k_r, jx_k_n, jx_k_u, jx_k_s, jx_k_q, tw_r, tw_f, tq_r, va_up_s, tm_isCourt, q1]
/-- the rows of those that fit, c of the first m -/
def tq_sh (P : Nat → Bool) (f : Nat → Nat → Int32) (m c : Nat) (g : Nat → Int32) : Prop :=
  c ≤ m ∧ ∀ n, n ≤ 60 → (∀ v, cN (fun k => P k && decide (f k n = v)) m = cN (fun i => decide (g (61 * i + n) = v)) c) ∧ ∀ i, i < c → ∃ k, k < m ∧ g (61 * i + n) = f k n
theorem tm_look1 (h0 : 0 < s 0) (iv : cq_iv s a day tm pm now) (hN : sp_nt s a nm) (hR : tq_rs (D + 2) Q Lr rm) (e23 : N 23 = nI rm) (hK : tq_kp s a E Q) :
    ∃ a' N' Q' W' c, tq_al a a' ∧ tq_nf N N' ∧ tq_qf Q Q' ∧ tq_sh (sp_fit Lr s a nm) (sp_hk Lr s a) (rm + 1) c (Q' 48) ∧ jx_eb (d + D + 8) 150 27 [.ref 113, .int k, .int 0, .int (-1), jx_un] [] (tw h s a E N Q W) = jx_eb (d + D + 8) 150 87 [.ref 113, .int k, .int (nI c), .int (nI (rm + 1) - 1), (if c = 0 then jx_un else .int (nI 61))] [] (tw h s a' E N' Q' W') := by
  have hrm := hR.1
  generalize eP : sp_fit Lr s a nm = P
  generalize eF : sp_hk Lr s a = F
  have key := jx_lp (d := d + D + 8) (y := 150) (L := 27) (n := rm + 1) (γ := (Nat → Nat → Int32) × (Nat → Int32) × (Nat → Int32) × (Nat → Int32) × (Nat → Nat → Int64) × Nat) (ls := fun m z => [.ref 113, .int k, .int (nI z.2.2.2.2.2), .int (nI m - 1), (if z.2.2.2.2.2 = 0 then jx_un else .int (nI 61))]) (H := fun m z => tw h s z.1 E z.2.1 (va_up (va_up Q 47 z.2.2.1) 48 z.2.2.2.1) z.2.2.2.2.1)
    (I := fun m z => tq_al a z.1 ∧ tq_nf N z.2.1 ∧ tq_sh P F m z.2.2.2.2.2 z.2.2.2.1)
    (G := fun r => ∃ a' N' Q' W' c, tq_al a a' ∧ tq_nf N N' ∧ tq_qf Q Q' ∧ tq_sh P F (rm + 1) c (Q' 48) ∧ r = jx_eb (d + D + 8) 150 87 [.ref 113, .int k, .int (nI c), .int (nI (rm + 1) - 1), (if c = 0 then jx_un else .int (nI 61))] [] (tw h s a' E N' Q' W')) ?_ ?_ (rm + 1) 0 (a, N, Q 47, Q 48, W, 0) (by omega) ⟨tq_al_r, tq_nf_r, (show tq_sh P F 0 0 (Q 48) from ⟨Nat.le_refl _, fun n hn => ⟨fun v => rfl, fun i hi => absurd hi (by omega)⟩⟩)⟩
  · have e0 : nI 0 - 1 = -1 := by decide
    have eQ : va_up (va_up Q 47 (Q 47)) 48 (Q 48) = Q := by rw [va_up_id]; exact va_up_id
    simp only [e0, nI_0, eQ, if_true] at key
    exact key
  · rintro m ⟨a1, N2, f47, f48, W1, c⟩ hm ⟨al, hN2, hS⟩
    simp only at al hN2 hS
    have hcm := hS.1
    have h3 : ¬ nI rm ≤ nI m - 1 := by
      rw [Int32.not_le, Int32.lt_iff_toInt_lt, nI_toInt (by omega), show (1 : Int32) = nI 1 from rfl, pk_sub_toInt (by omega) (by omega)]
      omega
    have n23 : N2 23 = nI rm := (hN2 23 (by omega) (by omega) (by omega) (by omega)).trans e23
    obtain ⟨a2, N3, W2, f2, h1, h2, hf, e2⟩ := tm_couldRule (d := d) (h := h) (N := N2) (W := W1) (Q := va_up (va_up Q 47 f47) 48 f48) (k := m) iv hN al (tq_kp_up (tq_kp_up hK (by omega)) (by omega)) (show m ≤ rm by omega) (tq_rs_Q hR (fun f h1 h2 => by rw [va_up_nj (by omega), va_up_nj (by omega)]))
    have eQ2 : va_up (va_up (va_up Q 47 f47) 48 f48) 47 f2 = va_up (va_up Q 47 f2) 48 f48 := by
      funext j
      simp only [va_up]
      by_cases j1 : j = 47
      · simp only [j1, reduceIte, Nat.reduceEqDiff]
      · simp only [j1, if_false]
    rw [eQ2, eP] at e2
    rw [eF] at hf
    have em : nI m - 1 + 1 = nI (m + 1) - 1 := by
      rw [← nI_1, Int32.sub_add_cancel, Int32.add_sub_cancel]
    by_cases r : P m = true
    · rw [sp_bl_t r] at e2
      -- its course into the rows
      have row := jx_lp (d := d + D + 8) (y := 150) (L := 46) (n := 61) (γ := Unit) (ls := fun u _ => [.ref 113, .int k, .int (nI c), .int (nI m - 1), .int (nI u)]) (H := fun u _ => tw h s a2 E N3 (va_up (va_up Q 47 f2) 48 (va_cpy f2 f48 0 (61 * c) u)) W2)
        (I := fun _ _ => True)
        (G := fun r => r = jx_eb (d + D + 8) 150 81 [.ref 113, .int k, .int (nI (c + 1)), .int (nI m - 1), .int (nI 61)] [] (tw h s a2 E N3 (va_up (va_up Q 47 f2) 48 (va_cpy f2 f48 0 (61 * c) 61)) W2)) ?_ ?_ 61 0 () (by omega) trivial
      · have v1 : ∀ i, i < c → ∀ n, n ≤ 60 → va_cpy f2 f48 0 (61 * c) 61 (61 * i + n) = f48 (61 * i + n) := by
          intro i hi n hn
          rw [va_cpy, if_neg (by omega)]
        have v2 : ∀ n, n ≤ 60 → va_cpy f2 f48 0 (61 * c) 61 (61 * c + n) = F m n := by
          intro n hn
          rw [va_cpy, if_pos (by omega), ← hf n (by omega)]
          congr 1
          omega
        have hS2 : tq_sh P F (m + 1) (c + 1) (va_cpy f2 f48 0 (61 * c) 61) := by
          refine ⟨by omega, fun n hn => ⟨fun v => ?_, fun i hi => ?_⟩⟩
          · rw [cN, cN, (hS.2 n hn).1 v, r, Bool.true_and, v2 n hn]
            congr 1
            exact cN_c c (fun i hi => by rw [v1 i hi n hn])
          · rcases (show i < c ∨ i = c by omega) with q | q
            · obtain ⟨k', hk', e⟩ := (hS.2 n hn).2 i q
              exact ⟨k', by omega, by rw [v1 i q n hn]; exact e⟩
            · subst q
              exact ⟨m, by omega, v2 n hn⟩
        refine .inr ⟨(a2, N3, f2, va_cpy f2 f48 0 (61 * c) 61, W2, c + 1), ⟨h1, tq_nf_t hN2 h2, hS2⟩, ?_⟩
        · simp only [nI_0, va_cpy_0] at row
          have c1 : ¬ c + 1 = 0 := by omega
          rw [eb_150_27]
          by_cases q : c = 0
          · simp only [q, if_true] at row ⊢
            simp only [jx_ns_r, jx_ns_n, jx_ns_q, jx_ns_i, jx_gl_0, jx_gl_s, if_true, if_false, ite_true, ite_false, eq_self, Bool.false_eq_true, List.length_cons, List.length_nil, Nat.zero_le, Nat.reduceAdd, Nat.reduceSub, Nat.reduceLeDiff, Nat.reduceLT, Nat.reduceEqDiff, Int.reduceToNat, reduceIte, xe_aload, jx_rv_r, jx_rv_n, jx_rv_q, xe_inv0, jx_cc_i, jx_cc_v, Nat.reduceMod, Nat.reduceDiv, jx_cl9_i, xe_ifeq, xk_iload, jx_iv_i, ak_I, xe_i2l, xe_lconst, xl_0, xl_1, xe_sta3, xe_ifne, xe_goto_w, xe_iconst, xi_m1, xe_ireturn, xi_0, xx_0, xe_istore, xk_getf, jx_gf_i, jx_ov_s, ak_V, xe_icmp_ge, xe_inv1, xi_60, xe_icmp_gt, xi_61, xe_imul, xe_iadd, xk_iald, ja_ia, ak_A, true_or, or_true, xk_iast, ja_is, ak_S, ak_P, xk_iinc, ak_C, xi_1, xe_goto, xi_m2, xx_1, xe_inv2, jx_s1, List.set_cons_zero, List.set_cons_succ, jx_2_i, jx_2_l, jx_2_r, jx_2_n, jx_2_u, jx_2_s, jx_2_q, jx_k_i, jx_k_l, jx_k_r, jx_k_n, jx_k_u, jx_k_s, jx_k_q, tw_r, tw_f, tq_r, va_up_s, n23, h3, e2, sp_10]
            rw [row]
            simp only [eb_150_81, jx_ns_r, jx_ns_n, jx_ns_q, jx_ns_i, jx_gl_0, jx_gl_s, if_true, if_false, ite_true, ite_false, eq_self, Bool.false_eq_true, List.length_cons, List.length_nil, Nat.zero_le, Nat.reduceAdd, Nat.reduceSub, Nat.reduceLeDiff, Nat.reduceLT, Nat.reduceEqDiff, Int.reduceToNat, reduceIte, xe_aload, jx_rv_r, jx_rv_n, jx_rv_q, xe_inv0, jx_cc_i, jx_cc_v, Nat.reduceMod, Nat.reduceDiv, jx_cl9_i, xe_ifeq, xk_iload, jx_iv_i, ak_I, xe_i2l, xe_lconst, xl_0, xl_1, xe_sta3, xe_ifne, xe_goto_w, xe_iconst, xi_m1, xe_ireturn, xi_0, xx_0, xe_istore, xk_getf, jx_gf_i, jx_ov_s, ak_V, xe_icmp_ge, xe_inv1, xi_60, xe_icmp_gt, xi_61, xe_imul, xe_iadd, xk_iald, ja_ia, ak_A, true_or, or_true, xk_iast, ja_is, ak_S, ak_P, xk_iinc, ak_C, xi_1, xe_goto, xi_m2, xx_1, xe_inv2, jx_s1, List.set_cons_zero, List.set_cons_succ, jx_2_i, jx_2_l, jx_2_r, jx_2_n, jx_2_u, jx_2_s, jx_2_q, jx_k_i, jx_k_l, jx_k_r, jx_k_n, jx_k_u, jx_k_s, jx_k_q, em, if_neg c1, q]
          · simp only [q, if_false] at row ⊢
            simp only [jx_ns_r, jx_ns_n, jx_ns_q, jx_ns_i, jx_gl_0, jx_gl_s, if_true, if_false, ite_true, ite_false, eq_self, Bool.false_eq_true, List.length_cons, List.length_nil, Nat.zero_le, Nat.reduceAdd, Nat.reduceSub, Nat.reduceLeDiff, Nat.reduceLT, Nat.reduceEqDiff, Int.reduceToNat, reduceIte, xe_aload, jx_rv_r, jx_rv_n, jx_rv_q, xe_inv0, jx_cc_i, jx_cc_v, Nat.reduceMod, Nat.reduceDiv, jx_cl9_i, xe_ifeq, xk_iload, jx_iv_i, ak_I, xe_i2l, xe_lconst, xl_0, xl_1, xe_sta3, xe_ifne, xe_goto_w, xe_iconst, xi_m1, xe_ireturn, xi_0, xx_0, xe_istore, xk_getf, jx_gf_i, jx_ov_s, ak_V, xe_icmp_ge, xe_inv1, xi_60, xe_icmp_gt, xi_61, xe_imul, xe_iadd, xk_iald, ja_ia, ak_A, true_or, or_true, xk_iast, ja_is, ak_S, ak_P, xk_iinc, ak_C, xi_1, xe_goto, xi_m2, xx_1, xe_inv2, jx_s1, List.set_cons_zero, List.set_cons_succ, jx_2_i, jx_2_l, jx_2_r, jx_2_n, jx_2_u, jx_2_s, jx_2_q, jx_k_i, jx_k_l, jx_k_r, jx_k_n, jx_k_u, jx_k_s, jx_k_q, tw_r, tw_f, tq_r, va_up_s, n23, h3, e2, sp_10]
            rw [row]
            simp only [eb_150_81, jx_ns_r, jx_ns_n, jx_ns_q, jx_ns_i, jx_gl_0, jx_gl_s, if_true, if_false, ite_true, ite_false, eq_self, Bool.false_eq_true, List.length_cons, List.length_nil, Nat.zero_le, Nat.reduceAdd, Nat.reduceSub, Nat.reduceLeDiff, Nat.reduceLT, Nat.reduceEqDiff, Int.reduceToNat, reduceIte, xe_aload, jx_rv_r, jx_rv_n, jx_rv_q, xe_inv0, jx_cc_i, jx_cc_v, Nat.reduceMod, Nat.reduceDiv, jx_cl9_i, xe_ifeq, xk_iload, jx_iv_i, ak_I, xe_i2l, xe_lconst, xl_0, xl_1, xe_sta3, xe_ifne, xe_goto_w, xe_iconst, xi_m1, xe_ireturn, xi_0, xx_0, xe_istore, xk_getf, jx_gf_i, jx_ov_s, ak_V, xe_icmp_ge, xe_inv1, xi_60, xe_icmp_gt, xi_61, xe_imul, xe_iadd, xk_iald, ja_ia, ak_A, true_or, or_true, xk_iast, ja_is, ak_S, ak_P, xk_iinc, ak_C, xi_1, xe_goto, xi_m2, xx_1, xe_inv2, jx_s1, List.set_cons_zero, List.set_cons_succ, jx_2_i, jx_2_l, jx_2_r, jx_2_n, jx_2_u, jx_2_s, jx_2_q, jx_k_i, jx_k_l, jx_k_r, jx_k_n, jx_k_u, jx_k_s, jx_k_q, em, if_neg c1]
      · intro u _ hu _
        have h4 : ¬ (60 : Int32) < nI u := nI_nlt (b := u) (a := 60) (by omega) (by omega)
        have i1 := sp_ix (show 61 * c + u < 427 by omega) (by decide)
        have i2 := sp_ix (show u < 66 by omega) (by decide)
        have e47 : ∀ x, va_up (va_up Q 47 f2) 48 x 47 = f2 := fun x => rfl
        refine .inr ⟨(), trivial, ?_⟩
        rw [eb_150_46]
        simp only [jx_ns_r, jx_ns_n, jx_ns_q, jx_ns_i, jx_gl_0, jx_gl_s, if_true, if_false, ite_true, ite_false, eq_self, Bool.false_eq_true, List.length_cons, List.length_nil, Nat.zero_le, Nat.reduceAdd, Nat.reduceSub, Nat.reduceLeDiff, Nat.reduceLT, Nat.reduceEqDiff, Int.reduceToNat, reduceIte, xe_aload, jx_rv_r, jx_rv_n, jx_rv_q, xe_inv0, jx_cc_i, jx_cc_v, Nat.reduceMod, Nat.reduceDiv, jx_cl9_i, xe_ifeq, xk_iload, jx_iv_i, ak_I, xe_i2l, xe_lconst, xl_0, xl_1, xe_sta3, xe_ifne, xe_goto_w, xe_iconst, xi_m1, xe_ireturn, xi_0, xx_0, xe_istore, xk_getf, jx_gf_i, jx_ov_s, ak_V, xe_icmp_ge, xe_inv1, xi_60, xe_icmp_gt, xi_61, xe_imul, xe_iadd, xk_iald, ja_ia, ak_A, true_or, or_true, xk_iast, ja_is, ak_S, ak_P, xk_iinc, ak_C, xi_1, xe_goto, xi_m2, xx_1, xe_inv2, jx_s1, List.set_cons_zero, List.set_cons_succ, jx_2_i, jx_2_l, jx_2_r, jx_2_n, jx_2_u, jx_2_s, jx_2_q, jx_k_i, jx_k_l, jx_k_r, jx_k_n, jx_k_u, jx_k_s, jx_k_q, tw_r, tw_f, tw_w48, h4, sp_m61, i1, i2, e47, va_up_s, reduceIte, va_up_up, va_cpy_s, nI_1]
      · intro _ _
        have h4 : (60 : Int32) < nI 61 := by decide
        simp only [eb_150_46, eb_150_78, jx_ns_r, jx_ns_n, jx_ns_q, jx_ns_i, jx_gl_0, jx_gl_s, if_true, if_false, ite_true, ite_false, eq_self, Bool.false_eq_true, List.length_cons, List.length_nil, Nat.zero_le, Nat.reduceAdd, Nat.reduceSub, Nat.reduceLeDiff, Nat.reduceLT, Nat.reduceEqDiff, Int.reduceToNat, reduceIte, xe_aload, jx_rv_r, jx_rv_n, jx_rv_q, xe_inv0, jx_cc_i, jx_cc_v, Nat.reduceMod, Nat.reduceDiv, jx_cl9_i, xe_ifeq, xk_iload, jx_iv_i, ak_I, xe_i2l, xe_lconst, xl_0, xl_1, xe_sta3, xe_ifne, xe_goto_w, xe_iconst, xi_m1, xe_ireturn, xi_0, xx_0, xe_istore, xk_getf, jx_gf_i, jx_ov_s, ak_V, xe_icmp_ge, xe_inv1, xi_60, xe_icmp_gt, xi_61, xe_imul, xe_iadd, xk_iald, ja_ia, ak_A, true_or, or_true, xk_iast, ja_is, ak_S, ak_P, xk_iinc, ak_C, xi_1, xe_goto, xi_m2, xx_1, xe_inv2, jx_s1, List.set_cons_zero, List.set_cons_succ, jx_2_i, jx_2_l, jx_2_r, jx_2_n, jx_2_u, jx_2_s, jx_2_q, jx_k_i, jx_k_l, jx_k_r, jx_k_n, jx_k_u, jx_k_s, jx_k_q, h4, nI_1]
    · rw [sp_bl_f r] at e2
      have hS2 : tq_sh P F (m + 1) c f48 := by
        refine ⟨by omega, fun n hn => ⟨fun v => ?_, fun i hi => ?_⟩⟩
        · rw [cN, ← (hS.2 n hn).1 v, if_neg (by rw [Bool.and_eq_true]; exact fun q => r q.1)]
          rfl
        · obtain ⟨k', hk', e⟩ := (hS.2 n hn).2 i hi
          exact ⟨k', by omega, e⟩
      refine .inr ⟨(a2, N3, f2, f48, W2, c), ⟨h1, tq_nf_t hN2 h2, hS2⟩, ?_⟩
      · rw [eb_150_27]
        by_cases q : c = 0
        · simp only [q, if_true]
          simp only [eb_150_81, jx_ns_r, jx_ns_n, jx_ns_q, jx_ns_i, jx_gl_0, jx_gl_s, if_true, if_false, ite_true, ite_false, eq_self, Bool.false_eq_true, List.length_cons, List.length_nil, Nat.zero_le, Nat.reduceAdd, Nat.reduceSub, Nat.reduceLeDiff, Nat.reduceLT, Nat.reduceEqDiff, Int.reduceToNat, reduceIte, xe_aload, jx_rv_r, jx_rv_n, jx_rv_q, xe_inv0, jx_cc_i, jx_cc_v, Nat.reduceMod, Nat.reduceDiv, jx_cl9_i, xe_ifeq, xk_iload, jx_iv_i, ak_I, xe_i2l, xe_lconst, xl_0, xl_1, xe_sta3, xe_ifne, xe_goto_w, xe_iconst, xi_m1, xe_ireturn, xi_0, xx_0, xe_istore, xk_getf, jx_gf_i, jx_ov_s, ak_V, xe_icmp_ge, xe_inv1, xi_60, xe_icmp_gt, xi_61, xe_imul, xe_iadd, xk_iald, ja_ia, ak_A, true_or, or_true, xk_iast, ja_is, ak_S, ak_P, xk_iinc, ak_C, xi_1, xe_goto, xi_m2, xx_1, xe_inv2, jx_s1, List.set_cons_zero, List.set_cons_succ, jx_2_i, jx_2_l, jx_2_r, jx_2_n, jx_2_u, jx_2_s, jx_2_q, jx_k_i, jx_k_l, jx_k_r, jx_k_n, jx_k_u, jx_k_s, jx_k_q, tw_r, tw_f, tq_r, va_up_s, n23, h3, e2, em]
        · simp only [q, if_false]
          simp only [eb_150_81, jx_ns_r, jx_ns_n, jx_ns_q, jx_ns_i, jx_gl_0, jx_gl_s, if_true, if_false, ite_true, ite_false, eq_self, Bool.false_eq_true, List.length_cons, List.length_nil, Nat.zero_le, Nat.reduceAdd, Nat.reduceSub, Nat.reduceLeDiff, Nat.reduceLT, Nat.reduceEqDiff, Int.reduceToNat, reduceIte, xe_aload, jx_rv_r, jx_rv_n, jx_rv_q, xe_inv0, jx_cc_i, jx_cc_v, Nat.reduceMod, Nat.reduceDiv, jx_cl9_i, xe_ifeq, xk_iload, jx_iv_i, ak_I, xe_i2l, xe_lconst, xl_0, xl_1, xe_sta3, xe_ifne, xe_goto_w, xe_iconst, xi_m1, xe_ireturn, xi_0, xx_0, xe_istore, xk_getf, jx_gf_i, jx_ov_s, ak_V, xe_icmp_ge, xe_inv1, xi_60, xe_icmp_gt, xi_61, xe_imul, xe_iadd, xk_iald, ja_ia, ak_A, true_or, or_true, xk_iast, ja_is, ak_S, ak_P, xk_iinc, ak_C, xi_1, xe_goto, xi_m2, xx_1, xe_inv2, jx_s1, List.set_cons_zero, List.set_cons_succ, jx_2_i, jx_2_l, jx_2_r, jx_2_n, jx_2_u, jx_2_s, jx_2_q, jx_k_i, jx_k_l, jx_k_r, jx_k_n, jx_k_u, jx_k_s, jx_k_q, tw_r, tw_f, tq_r, va_up_s, n23, h3, e2, em]
  · rintro ⟨a1, N2, f47, f48, W1, c⟩ ⟨al, hN2, hS⟩
    simp only at al hN2 hS
    have n23 : N2 23 = nI rm := (hN2 23 (by omega) (by omega) (by omega) (by omega)).trans e23
    have h3 : nI rm ≤ nI (rm + 1) - 1 := by
      rw [← nI_1, Int32.add_sub_cancel]
      exact (nI_leI (by omega) (by omega)).mpr (Nat.le_refl _)
    refine ⟨a1, N2, va_up (va_up Q 47 f47) 48 f48, W1, c, al, hN2, tq_qf_t (tq_qf_up (by omega)) (tq_qf_up (by omega)), hS, ?_⟩
    by_cases q : c = 0
    · simp only [q, if_true]
      simp only [eb_150_27, jx_ns_r, jx_ns_n, jx_ns_q, jx_ns_i, jx_gl_0, jx_gl_s, if_true, if_false, ite_true, ite_false, eq_self, Bool.false_eq_true, List.length_cons, List.length_nil, Nat.zero_le, Nat.reduceAdd, Nat.reduceSub, Nat.reduceLeDiff, Nat.reduceLT, Nat.reduceEqDiff, Int.reduceToNat, reduceIte, xe_aload, jx_rv_r, jx_rv_n, jx_rv_q, xe_inv0, jx_cc_i, jx_cc_v, Nat.reduceMod, Nat.reduceDiv, jx_cl9_i, xe_ifeq, xk_iload, jx_iv_i, ak_I, xe_i2l, xe_lconst, xl_0, xl_1, xe_sta3, xe_ifne, xe_goto_w, xe_iconst, xi_m1, xe_ireturn, xi_0, xx_0, xe_istore, xk_getf, jx_gf_i, jx_ov_s, ak_V, xe_icmp_ge, xe_inv1, xi_60, xe_icmp_gt, xi_61, xe_imul, xe_iadd, xk_iald, ja_ia, ak_A, true_or, or_true, xk_iast, ja_is, ak_S, ak_P, xk_iinc, ak_C, xi_1, xe_goto, xi_m2, xx_1, xe_inv2, jx_s1, List.set_cons_zero, List.set_cons_succ, jx_2_i, jx_2_l, jx_2_r, jx_2_n, jx_2_u, jx_2_s, jx_2_q, jx_k_i, jx_k_l, jx_k_r, jx_k_n, jx_k_u, jx_k_s, jx_k_q, tw_r, tw_f, tq_r, va_up_s, n23, h3]
    · simp only [q, if_false]
      simp only [eb_150_27, jx_ns_r, jx_ns_n, jx_ns_q, jx_ns_i, jx_gl_0, jx_gl_s, if_true, if_false, ite_true, ite_false, eq_self, Bool.false_eq_true, List.length_cons, List.length_nil, Nat.zero_le, Nat.reduceAdd, Nat.reduceSub, Nat.reduceLeDiff, Nat.reduceLT, Nat.reduceEqDiff, Int.reduceToNat, reduceIte, xe_aload, jx_rv_r, jx_rv_n, jx_rv_q, xe_inv0, jx_cc_i, jx_cc_v, Nat.reduceMod, Nat.reduceDiv, jx_cl9_i, xe_ifeq, xk_iload, jx_iv_i, ak_I, xe_i2l, xe_lconst, xl_0, xl_1, xe_sta3, xe_ifne, xe_goto_w, xe_iconst, xi_m1, xe_ireturn, xi_0, xx_0, xe_istore, xk_getf, jx_gf_i, jx_ov_s, ak_V, xe_icmp_ge, xe_inv1, xi_60, xe_icmp_gt, xi_61, xe_imul, xe_iadd, xk_iald, ja_ia, ak_A, true_or, or_true, xk_iast, ja_is, ak_S, ak_P, xk_iinc, ak_C, xi_1, xe_goto, xi_m2, xx_1, xe_inv2, jx_s1, List.set_cons_zero, List.set_cons_succ, jx_2_i, jx_2_l, jx_2_r, jx_2_n, jx_2_u, jx_2_s, jx_2_q, jx_k_i, jx_k_l, jx_k_r, jx_k_n, jx_k_u, jx_k_s, jx_k_q, tw_r, tw_f, tq_r, va_up_s, n23, h3]
end TO
