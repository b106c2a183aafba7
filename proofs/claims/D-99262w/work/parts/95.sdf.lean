/-! TEXTS: what a text adds to the heap; oneOf; a value -/
set_option maxRecDepth 100000
/-- h' is h and at most c cells after it, all of the kinds that stay -/
def ex (h h' : jx_H) (c : Nat) : Prop := (h.2.1 ≤ h'.2.1 ∧ h'.2.1 ≤ h.2.1 + c) ∧ (h.2.2 ≤ h'.2.2 ∧ h'.2.2 ≤ h.2.2 + 16 * (h'.2.1 - h.2.1)) ∧ (∀ j, j < h.2.1 → h'.1 j = h.1 j) ∧ ∀ j, h.2.1 ≤ j → j < h'.2.1 → jx_fz (h'.1 j) = true
section EX
variable {h h1 h2 : jx_H} {c c1 c2 k t n : Nat} {x : va_E} {n' e' g' u' : Int32}
theorem ex_refl : ex h h 0 := ⟨⟨Nat.le_refl _, Nat.le_refl _⟩, ⟨Nat.le_refl _, by omega⟩, fun _ _ => rfl, fun j q1 q2 => absurd q1 (by omega)⟩
theorem ex_le (q : ex h h1 c1) (l : c1 ≤ c2) : ex h h1 c2 := ⟨⟨q.1.1, by have := q.1.2; omega⟩, q.2.1, q.2.2⟩
theorem ex_tr (q : ex h h1 c1) (r : ex h1 h2 c2) (l : c1 + c2 ≤ c) : ex h h2 c := by
  obtain ⟨⟨a1, a2⟩, ⟨a3, a4⟩, a5, a6⟩ := q
  obtain ⟨⟨b1, b2⟩, ⟨b3, b4⟩, b5, b6⟩ := r
  refine ⟨⟨by omega, by omega⟩, ⟨by omega, by omega⟩, fun j hj => (b5 j (by omega)).trans (a5 j hj), fun j j1 j2 => ?_⟩
  by_cases q : j < h1.2.1
  · rw [b5 j q]; exact a6 j j1 q
  · exact b6 j (by omega) j2
theorem ex_new (q : ex h h1 c1) (hx : jx_fz x = true) (hn : n ≤ 16) (l : c1 + 1 ≤ c) : ex h (jx_new h1 x n) c := by
  refine ex_tr q (⟨⟨by rw [jx_new_sz]; omega, by rw [jx_new_sz]; exact Nat.le_refl _⟩, ⟨by rw [jx_new_sz]; omega, by rw [jx_new_sz]; show h1.2.2 + n ≤ h1.2.2 + 16 * (h1.2.1 + 1 - h1.2.1); omega⟩, fun j hj => ?_, fun j j1 j2 => ?_⟩ : ex h1 (jx_new h1 x n) 1) l
  · rw [jx_new_at, if_neg (by omega)]
  · have j3 : j < h1.2.1 + 1 := j2
    rw [jx_new_at, if_pos (by omega)]; exact hx
theorem ex_put (q : ex h h1 c) (hx : jx_fz x = true) (hk : h.2.1 ≤ k) : ex h (jx_put h1 k x) c := by
  obtain ⟨a1, a2, a5, a6⟩ := q
  refine ⟨a1, a2, fun j hj => ?_, fun j j1 j2 => ?_⟩
  · rw [jx_put_at, if_neg (by omega)]; exact a5 j hj
  · rw [jx_put_at]
    by_cases r : j = k
    · rw [if_pos r]; exact hx
    · rw [if_neg r]; exact a6 j j1 j2
theorem ex_ss (q : ex h h1 c) (hh : 48 ≤ h.2.1) (hs : ss_ok h) : ss_ok h1 := by
  intro i hi
  rw [q.2.2.1 _ (by omega), q.2.2.1 _ (by omega)]
  exact hs i hi
theorem tx_new (ht : t < h.2.1) : jx_new (tx h t n' e' g' u') x n = tx (jx_new h x n) t n' e' g' u' := by
  refine Prod.ext ?_ rfl
  funext j
  show (if j = h.2.1 then x else (tx h t n' e' g' u').1 j) = (tx (jx_new h x n) t n' e' g' u').1 j
  rw [tx, tx, jx_put_at, jx_put_at, jx_new_at]
  by_cases r : j = h.2.1
  · rw [if_pos r, if_neg (by omega), if_pos r]
  · rw [if_neg r, if_neg r]
theorem tx_put (hk : ¬ k = t) : jx_put (tx h t n' e' g' u') k x = tx (jx_put h k x) t n' e' g' u' := by
  refine Prod.ext ?_ rfl
  funext j
  show (if j = k then x else (tx h t n' e' g' u').1 j) = (tx (jx_put h k x) t n' e' g' u').1 j
  rw [tx, tx, jx_put_at, jx_put_at, jx_put_at]
  by_cases r : j = k
  · rw [if_pos r, if_neg (by omega), if_pos r]
  · rw [if_neg r, if_neg r]
theorem tx_at (hk : ¬ k = t) : (tx h t n' e' g' u').1 k = h.1 k := by
  rw [tx, jx_put_at, if_neg hk]
theorem tx_sz : (tx h t n' e' g' u').2 = h.2 := rfl
end EX
section SDF
variable {d : Nat} {h : jx_H} {cu : Option Nat} {F : Nat → Int32} {o p q z : cq_C} {T : List Value} {x : Int32 × Int32} {ru im : Nat → Option Nat} {tp : Nat → Int32} {R : Nat → Nat → Int32} {s : Nat → Int32} {a : Nat → Nat → Int32} {w : Nat → Int64}
variable {t n e g u M i k c nw a : Nat} {n' e' g' u' v l : Int32} {y : va_E} {f : Nat → Nat} {ar : Nat → Option Nat}
/-- the text's world: cells beside it are made, written, read -/
theorem txw_new (ht : t < h.2.1) (hh : 113 ≤ h.2.1) : jx_new (sw (tx h t n' e' g' u') cu F o p q z T x ru im tp R) y c = sw (tx (jx_new h y c) t n' e' g' u') cu F o p q z T x ru im tp R := by
  rw [sw_new (h := tx h t n' e' g' u') hh, tx_new ht]
theorem txw_put (hk : 113 ≤ k) (ht : ¬ k = t) : jx_put (sw (tx h t n' e' g' u') cu F o p q z T x ru im tp R) k y = sw (tx (jx_put h k y) t n' e' g' u') cu F o p q z T x ru im tp R := by
  rw [sw_put (.inr hk), tx_put ht]
theorem txw_at (hk : 113 ≤ k) (ht : ¬ k = t) : (sw (tx h t n' e' g' u') cu F o p q z T x ru im tp R).1 k = h.1 k := by
  rw [sw_out (by omega), tx_at ht]
theorem txw_sz : (sw (tx h t n' e' g' u') cu F o p q z T x ru im tp R).2 = h.2 := rfl
theorem T_oneOf (hs : ss_ok h) (hf : ∀ k, k < nw → f k < 22) (hw : 1 ≤ nw ∧ nw ≤ 12) (ha : 3 ≤ a) (hr : ∀ n', (sw (tx h t n' e' g' u') cu F o p q z T x ru im tp R).1 a = .inl (4, nw, .inr (.inr (.inr (.inr ar))))) (hg : ∀ k, k < nw → ar k = some (4 + f k)) (ht : 151 ≤ t) (eM : F 9 = nI M) (hM : M ≤ 400) (hn : n ≤ M) : jx_cr (d + 6) 200 [.ref t, .ref a] (sw (tx h t (nI n) e' g' u') cu F o p q z T x ru im tp R) = some (.inl (some (.int (match fd (fun k => wmb tp M (skp tp M n) (f k)) nw 0 with | some k => nI k | none => -1))), sw (tx h t (nI (skp tp M n)) e' g' u') cu F o p q z T x ru im tp R) := by
  have t3 : 3 ≤ t := by omega
  have s1 := fun d i n hi hn => T_isWord (d := d) (i := i) (n := n) (h := h) (cu := cu) (F := F) (o := o) (p := p) (q := q) (z := z) (T := T) (x := x) (ru := ru) (im := im) (tp := tp) (R := R) (e' := e') (g' := g') (u' := u') hs hi ht eM hM hn
  have le := skp_le (tp := tp) hn
  have ii := skp_i (tp := tp) hn
  have en : Int32.ofNat nw = nI nw := rfl
  have w0 : ∀ i, ∀ m, (wm tp M m i ↔ wmb tp M m i = true) := fun i m => by rw [wmb, @decide_eq_true_iff _ (Classical.propDecidable _)]
  have l := jx_lp (d := d + 5) (y := 200) (L := 2) (n := nw) (γ := Unit) (ls := fun k _ => [.ref t, .ref a, .int (nI k)]) (H := fun k _ => sw (tx h t (nI (if k = 0 then n else skp tp M n)) e' g' u') cu F o p q z T x ru im tp R)
    (I := fun k _ => fd (fun k => wmb tp M (skp tp M n) (f k)) nw 0 = fd (fun k => wmb tp M (skp tp M n) (f k)) (nw - k) k)
    (G := fun r => r = some (.inl (some (.int (match fd (fun k => wmb tp M (skp tp M n) (f k)) nw 0 with | some k => nI k | none => -1))), sw (tx h t (nI (skp tp M n)) e' g' u') cu F o p q z T x ru im tp R)) ?_ ?_ nw 0 () (by omega) rfl
  · rw [nI_0, if_pos rfl] at l
    simp only [cr_200 jx_ns_r, eb_200_0, jx_ns_r, jx_ns_n, jx_ns_q, jx_ns_i, jx_gl_0, jx_gl_s, if_true, if_false, ite_true, ite_false, eq_self, Bool.false_eq_true, List.length_cons, List.length_nil, Nat.zero_le, Nat.reduceAdd, Nat.reduceSub, Nat.reduceLeDiff, Nat.reduceLT, Nat.reduceEqDiff, Int.reduceToNat, reduceIte, xe_iconst, xi_0, xx_0, xe_istore, xe_goto_w, xk_iload, jx_iv_i, ak_I, xe_aload, jx_rv_r, jx_rv_n, jx_rv_q, xk_alen, jx_al_i, xe_icmp_ge, xk_qald, ja_qa, jx_ov_s, ak_A, ak_Q, true_or, or_true, and_self, and_true, true_and, xe_inv1, jx_cc_i, jx_cc_v, Nat.reduceMod, Nat.reduceDiv, jx_cl9_i, xe_ifeq, xe_ireturn, xk_iinc, ak_C, xi_1, xe_goto, xi_m1, jx_s1, List.set_cons_zero, List.set_cons_succ, jx_2_i, jx_2_l, jx_2_r, jx_2_n, jx_2_u, jx_2_s, jx_2_q, jx_k_i, jx_k_l, jx_k_r, jx_k_n, jx_k_u, jx_k_s, jx_k_q]
    exact l
  · intro k _ hk hI
    have h3 : ¬ nI nw ≤ nI k := nI_ge hk (by omega)
    have i1 := sp_ix hk (show nw < 2 ^ 31 by omega)
    have eg := hg k hk
    have hfk := hf k hk
    obtain ⟨⟨fs, h19⟩, _⟩ := ss_sw (cu := cu) (F := F) (o := o) (p := p) (q := q) (z := z) (T := T) (x := x) (ru := ru) (im := im) (tp := tp) (R := R) (ss_tx (n := nI (if k = 0 then n else skp tp M n)) (e := e') (g := g') (u := u') ht hs) (f k) hfk
    have s2 : ∀ d, jx_cr (d + 5) 198 [.ref t, .ref (4 + f k)] (sw (tx h t (nI (if k = 0 then n else skp tp M n)) e' g' u') cu F o p q z T x ru im tp R) = some (.inl (some (.int (sp_bl (wm tp M (skp tp M n) (f k))))), sw (tx h t (nI (skp tp M n)) e' g' u') cu F o p q z T x ru im tp R) := by
      intro d
      by_cases k0 : k = 0
      · rw [if_pos k0]; exact s1 d (f k) n hfk hn
      · rw [if_neg k0]
        have := s1 d (f k) _ hfk le
        rwa [ii] at this
    have rr := hr (nI (if k = 0 then n else skp tp M n))
    generalize nI (if k = 0 then n else skp tp M n) = n0 at *
    rw [fd_s hk] at hI
    by_cases r : wm tp M (skp tp M n) (f k)
    · rw [sp_bl_t r] at s2
      rw [if_pos ((w0 _ _).mp r)] at hI
      refine .inl ?_
      rw [hI, eb_200_2]
      simp only [eb_200_20, eb_200_26, jx_ns_r, jx_ns_n, jx_ns_q, jx_ns_i, jx_gl_0, jx_gl_s, if_true, if_false, ite_true, ite_false, eq_self, Bool.false_eq_true, List.length_cons, List.length_nil, Nat.zero_le, Nat.reduceAdd, Nat.reduceSub, Nat.reduceLeDiff, Nat.reduceLT, Nat.reduceEqDiff, Int.reduceToNat, reduceIte, xe_iconst, xi_0, xx_0, xe_istore, xe_goto_w, xk_iload, jx_iv_i, ak_I, xe_aload, jx_rv_r, jx_rv_n, jx_rv_q, xk_alen, jx_al_i, xe_icmp_ge, xk_qald, ja_qa, jx_ov_s, ak_A, ak_Q, true_or, or_true, and_self, and_true, true_and, xe_inv1, jx_cc_i, jx_cc_v, Nat.reduceMod, Nat.reduceDiv, jx_cl9_i, xe_ifeq, xe_ireturn, xk_iinc, ak_C, xi_1, xe_goto, xi_m1, jx_s1, List.set_cons_zero, List.set_cons_succ, jx_2_i, jx_2_l, jx_2_r, jx_2_n, jx_2_u, jx_2_s, jx_2_q, jx_k_i, jx_k_l, jx_k_r, jx_k_n, jx_k_u, jx_k_s, jx_k_q, tx_r ht, rr, h3, i1, eg, va_rf, h19, s2, sp_10, ha, en]
    · rw [sp_bl_f r] at s2
      rw [if_neg (mt (w0 _ _).mpr r)] at hI
      refine .inr ⟨(), hI, ?_⟩
      rw [eb_200_2, if_neg (by omega)]
      simp only [eb_200_20, eb_200_26, jx_ns_r, jx_ns_n, jx_ns_q, jx_ns_i, jx_gl_0, jx_gl_s, if_true, if_false, ite_true, ite_false, eq_self, Bool.false_eq_true, List.length_cons, List.length_nil, Nat.zero_le, Nat.reduceAdd, Nat.reduceSub, Nat.reduceLeDiff, Nat.reduceLT, Nat.reduceEqDiff, Int.reduceToNat, reduceIte, xe_iconst, xi_0, xx_0, xe_istore, xe_goto_w, xk_iload, jx_iv_i, ak_I, xe_aload, jx_rv_r, jx_rv_n, jx_rv_q, xk_alen, jx_al_i, xe_icmp_ge, xk_qald, ja_qa, jx_ov_s, ak_A, ak_Q, true_or, or_true, and_self, and_true, true_and, xe_inv1, jx_cc_i, jx_cc_v, Nat.reduceMod, Nat.reduceDiv, jx_cl9_i, xe_ifeq, xe_ireturn, xk_iinc, ak_C, xi_1, xe_goto, xi_m1, jx_s1, List.set_cons_zero, List.set_cons_succ, jx_2_i, jx_2_l, jx_2_r, jx_2_n, jx_2_u, jx_2_s, jx_2_q, jx_k_i, jx_k_l, jx_k_r, jx_k_n, jx_k_u, jx_k_s, jx_k_q, tx_r ht, rr, h3, i1, eg, va_rf, h19, s2, ha, nI_1, en]
  · intro _ hI
    have h3 : nI nw ≤ nI nw := (nI_leI (by omega) (by omega)).mpr (Nat.le_refl _)
    rw [fd_n] at hI
    rw [hI, if_neg (by omega), eb_200_2]
    simp only [eb_200_20, eb_200_26, jx_ns_r, jx_ns_n, jx_ns_q, jx_ns_i, jx_gl_0, jx_gl_s, if_true, if_false, ite_true, ite_false, eq_self, Bool.false_eq_true, List.length_cons, List.length_nil, Nat.zero_le, Nat.reduceAdd, Nat.reduceSub, Nat.reduceLeDiff, Nat.reduceLT, Nat.reduceEqDiff, Int.reduceToNat, reduceIte, xe_iconst, xi_0, xx_0, xe_istore, xe_goto_w, xk_iload, jx_iv_i, ak_I, xe_aload, jx_rv_r, jx_rv_n, jx_rv_q, xk_alen, jx_al_i, xe_icmp_ge, xk_qald, ja_qa, jx_ov_s, ak_A, ak_Q, true_or, or_true, and_self, and_true, true_and, xe_inv1, jx_cc_i, jx_cc_v, Nat.reduceMod, Nat.reduceDiv, jx_cl9_i, xe_ifeq, xe_ireturn, xk_iinc, ak_C, xi_1, xe_goto, xi_m1, jx_s1, List.set_cons_zero, List.set_cons_succ, jx_2_i, jx_2_l, jx_2_r, jx_2_n, jx_2_u, jx_2_s, jx_2_q, jx_k_i, jx_k_l, jx_k_r, jx_k_n, jx_k_u, jx_k_s, jx_k_q, hr, h3, ha, en]
end SDF
