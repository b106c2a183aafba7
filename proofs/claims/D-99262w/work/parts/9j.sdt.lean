/-! TEXTS: SpoonCourt.court -/
set_option maxRecDepth 100000
theorem lq_z : lq_s (fun _ => 0) 0 0 0 0 0 = fun _ => 0 := by
  funext k
  simp only [lq_s]
  have n0 : nI 0 = 0 := rfl
  rw [n0]
  split
  · rfl
  · split
    · rfl
    · split
      · rfl
      · split
        · rfl
        · split
          · rfl
          · rfl
/-- the rows read into, as a text begins -/
def cq_a0 (a : Nat → Nat → Int32) : Nat → Nat → Int32 := fun j => cq_fl (cq_len j) (fun _ => 0) (a j)
section SDT
variable {d : Nat} {h : jx_H} {cu : Option Nat} {F : Nat → Int32} {o p q z : cq_C} {T : List Value} {x : Int32 × Int32} {ru im : Nat → Option Nat} {tp : Nat → Int32} {R : Nat → Nat → Int32} {s : Nat → Int32} {a : Nat → Nat → Int32} {w : Nat → Int64}
variable {t M n k u j dn tm pm : Nat} {u' e' g' n' ow : Int32} {sb : Nat → Int32}
theorem sq_copies : jx_cr (d + 2) 167 [.ref 75, .ref 88] (sw h cu F o p (s, a, w) cq_z T x ru im tp R) = some (.inl (some (.ref 75)), sw h cu F o p (fun _ => 0, cq_a0 a, w) cq_z T x ru im tp R) := by
  have hc : cq_is (sw h cu F o p (s, a, w) cq_z T x ru im tp R) 88 (fun _ => 0) (fun _ _ => 0) := by
    have := @cq_is_put (sw h cu F o p (s, a, w) cq_z T x ru im tp R) 88 (fun _ => 0) (fun _ _ => 0) (fun _ => 0)
    rwa [show ((fun _ => 0, fun _ _ => 0, fun _ => 0) : cq_C) = cq_z from rfl, sw_z] at this
  have := cq_copies (d := d) (b := 75) (c := 88) (s := s) (a := a) (w := w) (by omega) (by omega) hc
  rwa [sw_q, sw_q] at this
theorem so_copies {sq : Nat → Int32} {aq : Nat → Nat → Int32} {wq : Nat → Int64} : jx_cr (d + 2) 167 [.ref 49, .ref 75] (sw h cu F (s, a, w) p (sq, aq, wq) z T x ru im tp R) = some (.inl (some (.ref 49)), sw h cu F (sq, (fun j => cq_fl (cq_len j) (aq j) (a j)), w) p (sq, aq, wq) z T x ru im tp R) := by
  have hc : cq_is (sw h cu F (s, a, w) p (sq, aq, wq) z T x ru im tp R) 75 sq aq := by
    have := @cq_is_put (sw h cu F (s, a, w) p (sq, aq, wq) z T x ru im tp R) 75 sq aq wq
    rwa [sw_q] at this
  have := cq_copies (d := d) (b := 49) (c := 75) (s := s) (a := a) (w := w) (by omega) (by omega) hc
  rwa [sw_o, sw_o] at this
theorem T_courtTold (hs : ss_ok h) (hT : T.length = 6) (ht : 151 ≤ t) (eM : F 9 = nI M) (hM : M ≤ 400) :
    (∀ kk pl, cts tp M (M + 1) 0 0 0 0 0 (cq_a0 a) 0 = .inl (kk, pl) → (kk ≤ 4 ∧ pl ≤ M) ∧ ∃ n2 u2 s2 a2, jx_cr (d + 7) 212 [.ref t] (sw (tx h t (nI 0) e' g' (nI 0)) cu F o p (s, a, w) cq_z T x ru im tp R) = some (.inr (), sw (tx h t n2 e' g' u2) cu F o p (s2, a2, w) cq_z T (nI kk, nI pl) ru im tp R)) ∧
    (∀ d2 o2 t2 p2 a2, cts tp M (M + 1) 0 0 0 0 0 (cq_a0 a) 0 = .inr (d2, o2, t2, p2, a2) → (1 ≤ d2 ∧ d2 ≤ 12) ∧ (1 ≤ o2 ∧ o2 ≤ 99) ∧ t2 ≤ 6 ∧ p2 ≤ 6 ∧ ∃ n2 u2, jx_cr (d + 7) 212 [.ref t] (sw (tx h t (nI 0) e' g' (nI 0)) cu F o p (s, a, w) cq_z T x ru im tp R) = some (.inl (some (.ref 75)), sw (tx h t n2 e' g' u2) cu F o p (cq_bgs (lq_s (fun _ => 0) d2 o2 t2 p2 1), cq_bgn a2, w) cq_z T x ru im tp R)) := by
  have t3 : 3 ≤ t := by omega
  have go := T_courtl (h := h) (x := x) (cu := cu) (F := F) (o := o) (p := p) (z := cq_z) (T := T) (ru := ru) (im := im) (tp := tp) (R := R) (t := t) (w := w) (sb := fun _ => 0) (e' := e') (g' := g') hs hT ht eM hM (M + 1) d 0 0 0 0 0 0 (cq_a0 a) jx_un jx_un (.inl rfl) (.inl rfl) (by omega) (by omega) (by omega) (by omega) (by omega) (fun q => absurd rfl q) (fun q => absurd rfl q)
  have cp := fun d => sq_copies (d := d) (h := tx h t (nI 0) e' g' (nI 0)) (cu := cu) (F := F) (o := o) (p := p) (T := T) (x := x) (ru := ru) (im := im) (tp := tp) (R := R) (s := s) (a := a) (w := w)
  have st : jx_cr (d + 7) 212 [.ref t] (sw (tx h t (nI 0) e' g' (nI 0)) cu F o p (s, a, w) cq_z T x ru im tp R) = jx_eb (d + 6) 212 15 [.ref t, jx_un, jx_un] [] (sw (tx h t (nI 0) e' g' (nI 0)) cu F o p (lq_s (fun _ => 0) 0 0 0 0 0, cq_a0 a, w) cq_z T x ru im tp R) := by
    rw [lq_z]
    simp only [cr_212, eb_212_0, jx_ns_r, jx_ns_n, jx_ns_q, jx_ns_i, jx_gl_0, jx_gl_s, if_true, if_false, ite_true, ite_false, eq_self, Bool.false_eq_true, List.length_cons, List.length_nil, Nat.zero_le, Nat.reduceAdd, Nat.reduceSub, Nat.reduceLeDiff, Nat.reduceLT, Nat.reduceEqDiff, Int.reduceToNat, reduceIte, xe_aload, jx_rv_r, jx_rv_n, jx_rv_q, xk_getf, jx_gf_i, jx_ov_s, ak_V, xe_inv1, jx_cc_i, jx_cc_v, Nat.reduceMod, Nat.reduceDiv, jx_cl9_i, xe_pop, jx_2_i, jx_2_l, jx_2_r, jx_2_n, jx_2_q, or_self, xe_goto_w, xe_inv0, xe_istore, xk_iload, jx_iv_i, ak_I, xe_iconst, xi_m1, xe_icmp_eq, xi_1, xx_1, xe_goto, xi_0, xx_0, xe_inv3, xi_4, xx_4, xe_dup, xe_iadd, xk_putf, ak_P, jx_pf_i, jx_pf_z, jx_pf_l, jx_pf_r, jx_pf_n, jx_pf_q, xk_qald, ja_qa, ak_A, ak_Q, true_or, or_true, and_self, and_true, true_and, xi_59, xe_ifne, xe_areturn_n, xe_areturn_r, jx_s1, List.set_cons_zero, List.set_cons_succ, jx_2_u, jx_2_s, jx_k_i, jx_k_l, jx_k_r, jx_k_n, jx_k_u, jx_k_s, jx_k_q, tx_r ht, sw_r, sw_f, tx_f, tx_s, sw_rq, sw_wqo, sw_wqr, cq_f, cq_s, va_up_s, cp]
  rw [st]
  exact go
theorem sc_court {sq : Nat → Int32} {aq : Nat → Nat → Int32} {wq : Nat → Int64} (hT : T.length = 6) (eM : F 9 = nI M) (hM : M ≤ 400) (hh : 151 ≤ h.2.1) (hs : ss_ok h) :
    (∀ k pl, cts tp M (M + 1) 0 0 0 0 0 (cq_a0 aq) 0 = .inl (k, pl) → (k ≤ 4 ∧ pl ≤ M) ∧ ∃ h1 q', ey h h1 1 ∧ jx_cr (d + 8) 8 [.ref 48] (sw h cu F o p (sq, aq, wq) cq_z T x ru im tp R) = some (.inl (some (.int (-2 - (1 + 8 * nI pl + nI k)))), sw h1 cu (va_up F 9 0) o p q' cq_z T (nI k, nI pl) ru im tp R)) ∧
    (∀ d2 o2 t2 p2 a2, cts tp M (M + 1) 0 0 0 0 0 (cq_a0 aq) 0 = .inr (d2, o2, t2, p2, a2) → (1 ≤ d2 ∧ d2 ≤ 12) ∧ (1 ≤ o2 ∧ o2 ≤ 99) ∧ t2 ≤ 6 ∧ p2 ≤ 6 ∧ ∃ h1 q', ey h h1 1 ∧ jx_cr (d + 8) 8 [.ref 48] (sw h cu F o p (sq, aq, wq) cq_z T x ru im tp R) = some (.inl (some (.int (nI t2))), sw h1 (some 49) (va_up F 9 0) (cq_bgs (lq_s (fun _ => 0) d2 o2 t2 p2 1), (fun j => cq_fl (cq_len j) (cq_bgn a2 j) (o.2.1 j)), o.2.2) p q' cq_z T x ru im tp R)) := by
  have h3 : 3 ≤ h.2.1 := by omega
  have ti := fun d => Text_init (d := d) (F := F) (p := p) (q := (sq, aq, wq)) (z := cq_z) (T := T) (x := x) (ru := ru) (im := im) (tp := tp) (R := R) (cu := cu) (o := o) hh
  generalize eh0 : jx_new h (.inr (4, jx_nf 4)) (jx_nf 4).length = h0 at ti
  have z0 : h0.2.1 = h.2.1 + 1 := by rw [← eh0]; rfl
  have y0 : ey h h0 1 := by rw [← eh0]; exact ⟨⟨by show h.2.1 ≤ h.2.1 + 1; omega, by show h.2.1 + 1 ≤ h.2.1 + 1; omega⟩, ⟨by show h.2.2 ≤ h.2.2 + 7; omega, by show h.2.2 + 7 ≤ h.2.2 + 16 * (h.2.1 + 1 - h.2.1); omega⟩, fun j hj => by rw [jx_new_at, if_neg (by omega)]⟩
  have tx0 : ∀ (n2 e2 g2 u2 : Int32), ey h (tx h0 h.2.1 n2 e2 g2 u2) 1 := fun n2 e2 g2 u2 =>
    ⟨y0.1, y0.2.1, fun j hj => by rw [tx_at (by omega)]; exact y0.2.2 j hj⟩
  have go := T_courtTold (d := d) (h := h0) (x := x) (cu := cu) (F := F) (o := o) (p := p) (s := sq) (a := aq) (w := wq) (T := T) (ru := ru) (im := im) (tp := tp) (R := R) (t := h.2.1) (e' := nI 0) (g' := nI 0) (ey_ss y0 (by omega) hs) hT hh eM hM
  have hd : ¬ 342 = 0 ∧ ¬ 342 = 1 := by omega
  have hx := fun (d : Nat) (c : List Instr) (ls st : List Value) (H : jx_H) => jx_cc_h (d := d) (y := 8) (c := c) (ls := ls) (st := st) (h := H) (hd := 342) hd.1 hd.2
  refine ⟨fun k pl hk => ?_, fun d2 o2 t2 p2 a2 hk => ?_⟩
  · obtain ⟨y1, n2, u2, s2, a2, y3⟩ := go.1 k pl hk
    refine ⟨y1, tx h0 h.2.1 n2 (nI 0) (nI 0) u2, (s2, a2, wq), tx0 _ _ _ _, ?_⟩
    have sf := fun (d : Nat) => SC_faulted (d := d) (h := tx h0 h.2.1 n2 (nI 0) (nI 0) u2) (cu := cu) (F := F) (o := o) (p := p) (q := (s2, a2, wq)) (z := cq_z) (T := T) (ru := ru) (im := im) (tp := tp) (R := R) (x := (nI k, nI pl)) hT
    simp only [cr_8, eb_8_0, eb_8_34, eb_8_39, jx_ns_r, jx_ns_n, jx_ns_q, jx_ns_i, jx_gl_0, jx_gl_s, if_true, if_false, ite_true, ite_false, eq_self, Bool.false_eq_true, List.length_cons, List.length_nil, Nat.zero_le, Nat.reduceAdd, Nat.reduceSub, Nat.reduceLeDiff, Nat.reduceLT, Nat.reduceEqDiff, Int.reduceToNat, reduceIte, xe_aload, jx_rv_r, jx_rv_n, jx_rv_q, xk_getf, jx_gf_i, jx_ov_s, ak_V, xe_new, xe_dup, jx_2_i, jx_2_l, jx_2_r, jx_2_n, jx_2_q, or_self, xe_spc1, jx_cc_i, jx_cc_v, Nat.reduceMod, Nat.reduceDiv, xe_inv0, jx_cl9_i, xe_inv1, xk_putf, ak_P, jx_pf_i, jx_pf_z, jx_pf_l, jx_pf_r, jx_pf_n, jx_pf_q, xe_istore, xe_goto, xe_goto_w, xe_iconst, xi_0, xx_0, xk_iload, jx_iv_i, ak_I, xe_ireturn, jx_s1, List.set_cons_zero, List.set_cons_succ, jx_2_u, jx_2_s, jx_k_i, jx_k_l, jx_k_r, jx_k_n, jx_k_u, jx_k_s, jx_k_q, sw_r, sw_f, sw_s, sw_wo, sw_ro, sw_rp, sw_woo, sw_wor, sw_wpo, sw_wpr, cq_f, cq_s, va_up_s, va_rf_s, va_rf_n, h3, swz, ti, tx_r hh, y3, hx, jx_s1, List.set_cons_zero, List.set_cons_succ, sf]
  · obtain ⟨y1, y2, y3, y4, n2, u2, y5⟩ := go.2 d2 o2 t2 p2 a2 hk
    obtain ⟨s1, a1, w1⟩ := o
    have cp := fun (d : Nat) => so_copies (d := d) (h := tx h0 h.2.1 n2 (nI 0) (nI 0) u2) (cu := cu) (F := F) (s := s1) (a := a1) (w := w1) (p := p) (sq := cq_bgs (lq_s (fun _ => 0) d2 o2 t2 p2 1)) (aq := cq_bgn a2) (wq := wq) (z := cq_z) (T := T) (x := x) (ru := ru) (im := im) (tp := tp) (R := R)
    have sb0 : (sw_ob cu F).set 0 (.ref 49) = sw_ob (some 49) F := rfl
    have b2 : cq_bgs (lq_s (fun _ => 0) d2 o2 t2 p2 1) 2 = nI t2 := rfl
    refine ⟨y1, y2, y3, y4, tx h0 h.2.1 n2 (nI 0) (nI 0) u2, (cq_bgs (lq_s (fun _ => 0) d2 o2 t2 p2 1), cq_bgn a2, wq), tx0 _ _ _ _, ?_⟩
    simp only [cr_8, eb_8_0, eb_8_39, jx_ns_r, jx_ns_n, jx_ns_q, jx_ns_i, jx_gl_0, jx_gl_s, if_true, if_false, ite_true, ite_false, eq_self, Bool.false_eq_true, List.length_cons, List.length_nil, Nat.zero_le, Nat.reduceAdd, Nat.reduceSub, Nat.reduceLeDiff, Nat.reduceLT, Nat.reduceEqDiff, Int.reduceToNat, reduceIte, xe_aload, jx_rv_r, jx_rv_n, jx_rv_q, xk_getf, jx_gf_i, jx_ov_s, ak_V, xe_new, xe_dup, jx_2_i, jx_2_l, jx_2_r, jx_2_n, jx_2_q, or_self, xe_spc1, jx_cc_i, jx_cc_v, Nat.reduceMod, Nat.reduceDiv, xe_inv0, jx_cl9_i, xe_inv1, xk_putf, ak_P, jx_pf_i, jx_pf_z, jx_pf_l, jx_pf_r, jx_pf_n, jx_pf_q, xe_istore, xe_goto, xe_goto_w, xe_iconst, xi_0, xx_0, xk_iload, jx_iv_i, ak_I, xe_ireturn, jx_s1, List.set_cons_zero, List.set_cons_succ, jx_2_u, jx_2_s, jx_k_i, jx_k_l, jx_k_r, jx_k_n, jx_k_u, jx_k_s, jx_k_q, sw_r, sw_f, sw_s, sw_wo, sw_ro, sw_rp, sw_woo, sw_wor, sw_wpo, sw_wpr, cq_f, cq_s, va_up_s, va_rf_s, va_rf_n, sw_rq, h3, swz, ti, tx_r hh, y5, cp, sb0, sw_ro, b2]
end SDT
