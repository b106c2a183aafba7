/-! the component's image and back -/
set_option maxRecDepth 100000
/-- an image at r, its court behind it -/
def im_put (h : jx_H) (r : Nat) (t x f : Int32) (C : cq_C) : jx_H := jx_put (cq_put h (r + 1) C) r (.inr (15, [.ref (r + 1), .int t, .int x, .int f]))
section IM
variable {h : jx_H} {r b k n : Nat} {t x f t' x' f' : Int32} {C C' : cq_C} {v : va_E}
theorem jx_pp {e : Nat} {H : jx_H} {y : va_E} : jx_put (jx_put H e v) e y = jx_put H e y := by
  simp only [jx_put]
  congr 1
  funext j
  by_cases q : j = e
  · rw [if_pos q, if_pos q]
  · rw [if_neg q, if_neg q, if_neg q]
theorem im_r : (im_put h r t x f C).1 r = .inr (15, [.ref (r + 1), .int t, .int x, .int f]) := by
  rw [im_put, jx_put_at, if_pos rfl]
theorem im_w : jx_put (im_put h r t x f C) r (.inr (15, [.ref (r + 1), .int t', .int x', .int f'])) = im_put h r t' x' f' C := jx_pp
theorem im_c : cq_put (im_put h r t x f C) (r + 1) C' = im_put h r t x f C' := by
  simp only [im_put, jx_put, cq_put]
  congr 1
  funext k
  by_cases h1 : k = r
  · rw [if_pos h1, if_neg (by omega), if_pos h1]
  · rw [if_neg h1]
    by_cases h2 : r + 1 ≤ k ∧ k < r + 1 + 13
    · rw [if_pos h2, if_neg h1, if_pos h2]
    · rw [if_neg h2, if_neg h2, if_neg h1, if_neg h2]
theorem im_o (hk : k < r ∨ r + 14 ≤ k) : (im_put h r t x f C).1 k = h.1 k := by
  rw [im_put, jx_put_at, if_neg (by omega), cq_out (by omega)]
theorem im_sz : (im_put h r t x f C).2 = h.2 := rfl
theorem im_cr {s : Nat → Int32} {a : Nat → Nat → Int32} {w : Nat → Int64} : (im_put h r t x f (s, a, w)).1 (r + 1) = .inr (1, cq_ob (r + 1) s) := by
  rw [im_put, jx_put_at, if_neg (by omega)]
  exact cq_r.1
theorem im_is {s : Nat → Int32} {a : Nat → Nat → Int32} {w : Nat → Int64} : cq_is (im_put h r t x f (s, a, w)) (r + 1) s a := by
  have := cq_is_put (h := im_put h r t x f (s, a, w)) (b := r + 1) (s := s) (a := a) (w := w)
  rwa [im_c] at this
/-- r is an image of h -/
def sp_img (h : jx_H) (r : Nat) (t x f : Int32) (C : cq_C) : Prop := im_put h r t x f C = h ∧ 151 ≤ r ∧ r + 14 ≤ h.2.1
end IM
section SDA
variable {d : Nat} {h : jx_H} {cu : Option Nat} {F : Nat → Int32} {o p q z : cq_C} {T : List Value} {x : Int32 × Int32} {ru im : Nat → Option Nat} {tp : Nat → Int32} {R : Nat → Nat → Int32} {s : Nat → Int32} {a : Nat → Nat → Int32} {w : Nat → Int64}
variable {i k : Int32} {t tm pm day um now D n : Nat} {lo : Option Nat} {Lo : Option ((Nat → Int64) → Int64)} {ps : Nat → Int32} {pa : Nat → Nat → Int32} {pw : Nat → Int64}
variable {r b m : Nat} {v : va_E} {C : cq_C} {t0 x0 f0 : Int32}
theorem sw_put (hk : m < 48 ∨ 113 ≤ m) : jx_put (sw h cu F o p q z T x ru im tp R) m v = sw (jx_put h m v) cu F o p q z T x ru im tp R := by
  simp only [jx_put, sw]
  congr 1
  funext j
  by_cases h1 : j = m
  · rw [if_pos h1, if_neg (by omega), if_pos h1]
  · rw [if_neg h1]
    by_cases h2 : 48 ≤ j ∧ j < 113
    · rw [if_pos h2, if_pos h2]
    · rw [if_neg h2, if_neg h2, if_neg h1]
theorem sw_new (hk : 113 ≤ h.2.1) : jx_new (sw h cu F o p q z T x ru im tp R) v n = sw (jx_new h v n) cu F o p q z T x ru im tp R := by
  refine Prod.ext ?_ rfl
  funext j
  show (if j = h.2.1 then v else ((sw h cu F o p q z T x ru im tp R)).1 j) = (sw (jx_new h v n) cu F o p q z T x ru im tp R).1 j
  by_cases h1 : j = h.2.1
  · rw [if_pos h1, sw_out (by omega), jx_new_at, if_pos h1]
  · rw [if_neg h1]
    by_cases h2 : 48 ≤ j ∧ j < 113
    · simp only [sw]
      rw [if_pos h2, if_pos h2]
    · rw [sw_out (by omega), sw_out (by omega), jx_new_at, if_neg h1]
theorem sw_cq (hb : 113 ≤ b) : cq_put (sw h cu F o p q z T x ru im tp R) b C = sw (cq_put h b C) cu F o p q z T x ru im tp R := by
  simp only [cq_put, sw]
  congr 1
  funext j
  by_cases h1 : b ≤ j ∧ j < b + 13
  · rw [if_pos h1, if_neg (by omega), if_pos h1]
  · rw [if_neg h1]
    by_cases h2 : 48 ≤ j ∧ j < 113
    · rw [if_pos h2, if_pos h2]
    · rw [if_neg h2, if_neg h2, if_neg h1]
theorem sw_im (hr : 113 ≤ r) : im_put (sw h cu F o p q z T x ru im tp R) r t0 x0 f0 C = sw (im_put h r t0 x0 f0 C) cu F o p q z T x ru im tp R := by
  rw [im_put, sw_cq (by omega), sw_put (by omega)]
  rfl
/-- a new image -/
def im_new (h : jx_H) : jx_H := ((im_put h h.2.1 0 0 0 cq_z).1, (h.2.1 + 14, h.2.2 + 679))
theorem Image_init {H : jx_H} (hb3 : 3 ≤ H.2.1) : jx_cr (d + 2) 183 [.ref H.2.1] (jx_new H (.inr (15, jx_nf 15)) (jx_nf 15).length) = some (.inl none, im_new H) := by
  have n15 : (jx_nf 15).length = 4 := rfl
  have n1 : (jx_nf 1).length = 23 := rfl
  have f15 : jx_nf 15 = [.null, .int 0, .int 0, .int 0] := rfl
  generalize eA : jx_new H (.inr (15, jx_nf 15)) (jx_nf 15).length = A
  have a0 : A.1 H.2.1 = .inr (15, [.null, .int 0, .int 0, .int 0]) := by rw [← eA, jx_new_at, if_pos rfl, f15]
  have a1 : A.2 = (H.2.1 + 1, H.2.2 + 4) := by rw [← eA]; rfl
  have a2 : ∀ k, ¬ k = H.2.1 → A.1 k = H.1 k := fun k hk => by rw [← eA, jx_new_at, if_neg hk]
  have i := Court_init (d := d) (b := A.2.1) (H := jx_new A (.inr (1, jx_nf 1)) (jx_nf 1).length) (by rw [a1]; show 3 ≤ H.2.1 + 1; omega) (by rw [jx_new_at, if_pos rfl]) rfl
  have e21 : A.2.1 = H.2.1 + 1 := by rw [a1]
  have n3 : 3 ≤ H.2.1 + 1 := by omega
  have rd : (cq_put (jx_new A (.inr (1, jx_nf 1)) (jx_nf 1).length) (H.2.1 + 1) cq_z).1 H.2.1 = .inr (15, [.null, .int 0, .int 0, .int 0]) := by
    rw [cq_out (by omega), jx_new_at, if_neg (by omega), a0]
  have sz : (jx_new A (.inr (1, jx_nf 1)) (jx_nf 1).length).2.2 = H.2.2 + 27 := by
    rw [jx_new_sz, a1]
    rfl
  have fin : jx_put ((cq_put (jx_new A (.inr (1, jx_nf 1)) (jx_nf 1).length) (H.2.1 + 1) cq_z).1, (H.2.1 + 1 + 13, H.2.2 + 27 + 652)) H.2.1 (.inr (15, [.ref (H.2.1 + 1), .int 0, .int 0, .int 0])) = im_new H := by
    refine Prod.ext ?_ rfl
    funext k
    show (if k = H.2.1 then _ else (cq_put (jx_new A _ _) (H.2.1 + 1) cq_z).1 k) = (im_put H H.2.1 0 0 0 cq_z).1 k
    rw [im_put, jx_put_at]
    by_cases h1 : k = H.2.1
    · rw [if_pos h1, if_pos h1]
    · rw [if_neg h1, if_neg h1]
      simp only [cq_put]
      by_cases h2 : H.2.1 + 1 ≤ k ∧ k < H.2.1 + 1 + 13
      · rw [if_pos h2, if_pos h2]
      · rw [if_neg h2, if_neg h2, jx_new_at, if_neg (by omega), a2 k h1]
  rw [e21, sz] at i
  simp only [cr_183, eb_183_0, jx_ns_r, jx_ns_n, jx_ns_q, jx_ns_i, jx_gl_0, jx_gl_s, if_true, if_false, ite_true, ite_false, eq_self, Bool.false_eq_true, List.length_cons, List.length_nil, Nat.zero_le, Nat.reduceAdd, Nat.reduceSub, Nat.reduceLeDiff, Nat.reduceLT, Nat.reduceEqDiff, Int.reduceToNat, reduceIte, xe_aload, jx_rv_r, jx_rv_n, jx_rv_q, xe_obj, and_self, and_true, true_and, xe_new, xe_dup, jx_2_i, jx_2_l, jx_2_r, jx_2_n, jx_2_q, or_self, xe_spc0, jx_cc_i, jx_cc_v, Nat.reduceMod, Nat.reduceDiv, xk_putf, ak_P, jx_pf_i, jx_pf_z, jx_pf_l, jx_pf_r, jx_pf_n, jx_pf_q, xe_return, hb3, e21, n3, and_self, i, rd, List.set_cons_zero, fin]
theorem sc_image0 (hq : ¬ (0 ≤ i.toInt64 ∧ i.toInt64 ≤ 3)) : jx_cr (d + 2) 54 [.ref 48, .int i] (sw h cu F o p q z T x ru im tp R) = some (.inl (some (.int (-1))), (sw h cu F o p q z T x ru im tp R)) := by
  simp only [cr_54, eb_54_0, jx_ns_r, jx_ns_n, jx_ns_q, jx_ns_i, jx_gl_0, jx_gl_s, if_true, if_false, ite_true, ite_false, eq_self, Bool.false_eq_true, List.length_cons, List.length_nil, Nat.zero_le, Nat.reduceAdd, Nat.reduceSub, Nat.reduceLeDiff, Nat.reduceLT, Nat.reduceEqDiff, Int.reduceToNat, reduceIte, xk_iload, jx_iv_i, ak_I, xe_i2l, xe_lconst, xl_0, xl_3, xe_sta3, jx_cc_i, jx_cc_v, Nat.reduceMod, Nat.reduceDiv, xe_ifne, xe_iconst, xi_m1, xe_ireturn, xe_aload, jx_rv_r, jx_rv_n, jx_rv_q, xk_getf, jx_gf_i, jx_ov_s, ak_V, xk_qald, ja_qa, ak_A, ak_Q, true_or, or_true, and_self, and_true, true_and, xe_ifnonnull_n, xe_ifnonnull_r, xe_new, xe_dup, jx_2_i, jx_2_l, jx_2_r, jx_2_n, jx_2_q, or_self, xe_spc0, xk_qast, ja_qs, ak_R, ak_P, xe_goto_w, xe_astore, xe_ifnull_n, xe_ifnull_r, xi_1, xx_1, xe_goto, xi_0, xx_0, xk_putf, jx_pf_i, jx_pf_z, jx_pf_l, jx_pf_r, jx_pf_n, jx_pf_q, xe_inv1, jx_cl9_i, xe_pop, jx_s1, List.set_cons_zero, List.set_cons_succ, jx_2_u, jx_2_s, jx_k_i, jx_k_l, jx_k_r, jx_k_n, jx_k_u, jx_k_s, jx_k_q, cq_inL, hq]
/-- into an image that is there -/
theorem sc_image1 (hr : 151 ≤ r) (hn : n < 4) (ei : im n = some r) : jx_eb (d + 2) 54 36 [.ref 48, .int (nI n), jx_un] [] (sw (im_put h r t0 x0 f0 C) (some 49) F (s, a, w) p q z T x ru im tp R) = some (.inl (some (.int (s 7))), sw (im_put h r 1 (F 5) (F 6) (s, (fun j => cq_fl (cq_len j) (a j) (C.2.1 j)), C.2.2)) (some 49) F (s, a, w) p q z T x ru im tp R) := by
  obtain ⟨sC, aC, wC⟩ := C
  have i1 := sp_ix hn (by decide)
  have r3 : 3 ≤ r := by omega
  have rd : ∀ t1 x1 f1, (sw (im_put h r t1 x1 f1 (sC, aC, wC)) (some 49) F (s, a, w) p q z T x ru im tp R).1 r = .inr (15, [.ref (r + 1), .int t1, .int x1, .int f1]) := fun t1 x1 f1 => by rw [sw_out (by omega)]; exact im_r
  have rd1 : ∀ t1 x1 f1, (sw (im_put h r t1 x1 f1 (sC, aC, wC)) (some 49) F (s, a, w) p q z T x ru im tp R).1 (r + 1) = .inr (1, cq_ob (r + 1) sC) := fun t1 x1 f1 => by rw [sw_out (by omega)]; exact im_cr
  have wr : ∀ t1 x1 f1 t2 x2 f2, jx_put (sw (im_put h r t1 x1 f1 (sC, aC, wC)) (some 49) F (s, a, w) p q z T x ru im tp R) r (.inr (15, [.ref (r + 1), .int t2, .int x2, .int f2])) = sw (im_put h r t2 x2 f2 (sC, aC, wC)) (some 49) F (s, a, w) p q z T x ru im tp R := fun t1 x1 f1 t2 x2 f2 => by rw [sw_put (by omega), im_w]
  have cp : ∀ d t1 x1 f1, jx_cr (d + 2) 167 [.ref (r + 1), .ref 49] (sw (im_put h r t1 x1 f1 (sC, aC, wC)) (some 49) F (s, a, w) p q z T x ru im tp R) = some (.inl (some (.ref (r + 1))), sw (im_put h r t1 x1 f1 (s, (fun j => cq_fl (cq_len j) (a j) (aC j)), wC)) (some 49) F (s, a, w) p q z T x ru im tp R) := fun d t1 x1 f1 => by
    have hc : cq_is (sw (im_put h r t1 x1 f1 (sC, aC, wC)) (some 49) F (s, a, w) p q z T x ru im tp R) 49 s a := by
      have := @cq_is_put (sw (im_put h r t1 x1 f1 (sC, aC, wC)) (some 49) F (s, a, w) p q z T x ru im tp R) 49 s a w
      rwa [sw_o] at this
    have := cq_copies (d := d) (b := r + 1) (c := 49) (s := sC) (a := aC) (w := wC) (by omega) (by omega) hc
    rwa [sw_cq (by omega), im_c, sw_cq (by omega), im_c] at this
  have o1 : (1 : Int32) &&& 1 = 1 := by decide
  simp only [eb_54_0, eb_54_14, eb_54_36, eb_54_55, eb_54_56, eb_54_84, jx_ns_r, jx_ns_n, jx_ns_q, jx_ns_i, jx_gl_0, jx_gl_s, if_true, if_false, ite_true, ite_false, eq_self, Bool.false_eq_true, List.length_cons, List.length_nil, Nat.zero_le, Nat.reduceAdd, Nat.reduceSub, Nat.reduceLeDiff, Nat.reduceLT, Nat.reduceEqDiff, Int.reduceToNat, reduceIte, xk_iload, jx_iv_i, ak_I, xe_i2l, xe_lconst, xl_0, xl_3, xe_sta3, jx_cc_i, jx_cc_v, Nat.reduceMod, Nat.reduceDiv, xe_ifne, xe_iconst, xi_m1, xe_ireturn, xe_aload, jx_rv_r, jx_rv_n, jx_rv_q, xk_getf, jx_gf_i, jx_ov_s, ak_V, xk_qald, ja_qa, ak_A, ak_Q, true_or, or_true, and_self, and_true, true_and, xe_ifnonnull_n, xe_ifnonnull_r, xe_new, xe_dup, jx_2_i, jx_2_l, jx_2_r, jx_2_n, jx_2_q, or_self, xe_spc0, xk_qast, ja_qs, ak_R, ak_P, xe_goto_w, xe_astore, xe_ifnull_n, xe_ifnull_r, xi_1, xx_1, xe_goto, xi_0, xx_0, xk_putf, jx_pf_i, jx_pf_z, jx_pf_l, jx_pf_r, jx_pf_n, jx_pf_q, xe_inv1, jx_cl9_i, xe_pop, jx_s1, List.set_cons_zero, List.set_cons_succ, jx_2_u, jx_2_s, jx_k_i, jx_k_l, jx_k_r, jx_k_n, jx_k_u, jx_k_s, jx_k_q, sw_r, sw_f, sw_ro, cq_f, i1, ei, va_rf_s, rd, rd1, wr, o1, r3, List.getElem?_cons_zero, List.getElem?_cons_succ, cp]
theorem sc_image1n (hr : 151 ≤ r) (hn : n < 4) (ei : im n = some r) : jx_eb (d + 2) 54 36 [.ref 48, .int (nI n), jx_un] [] (sw (im_put h r t0 x0 f0 C) none F o p q z T x ru im tp R) = some (.inl (some (.int 0)), sw (im_put h r 0 (F 5) (F 6) C) none F o p q z T x ru im tp R) := by
  obtain ⟨sC, aC, wC⟩ := C
  have i1 := sp_ix hn (by decide)
  have r3 : 3 ≤ r := by omega
  have rd : ∀ t1 x1 f1, (sw (im_put h r t1 x1 f1 (sC, aC, wC)) none F o p q z T x ru im tp R).1 r = .inr (15, [.ref (r + 1), .int t1, .int x1, .int f1]) := fun t1 x1 f1 => by rw [sw_out (by omega)]; exact im_r
  have wr : ∀ t1 x1 f1 t2 x2 f2, jx_put (sw (im_put h r t1 x1 f1 (sC, aC, wC)) none F o p q z T x ru im tp R) r (.inr (15, [.ref (r + 1), .int t2, .int x2, .int f2])) = sw (im_put h r t2 x2 f2 (sC, aC, wC)) none F o p q z T x ru im tp R := fun t1 x1 f1 t2 x2 f2 => by rw [sw_put (by omega), im_w]
  have o1 : (0 : Int32) &&& 1 = 0 := by decide
  simp only [eb_54_0, eb_54_14, eb_54_36, eb_54_55, eb_54_56, eb_54_84, jx_ns_r, jx_ns_n, jx_ns_q, jx_ns_i, jx_gl_0, jx_gl_s, if_true, if_false, ite_true, ite_false, eq_self, Bool.false_eq_true, List.length_cons, List.length_nil, Nat.zero_le, Nat.reduceAdd, Nat.reduceSub, Nat.reduceLeDiff, Nat.reduceLT, Nat.reduceEqDiff, Int.reduceToNat, reduceIte, xk_iload, jx_iv_i, ak_I, xe_i2l, xe_lconst, xl_0, xl_3, xe_sta3, jx_cc_i, jx_cc_v, Nat.reduceMod, Nat.reduceDiv, xe_ifne, xe_iconst, xi_m1, xe_ireturn, xe_aload, jx_rv_r, jx_rv_n, jx_rv_q, xk_getf, jx_gf_i, jx_ov_s, ak_V, xk_qald, ja_qa, ak_A, ak_Q, true_or, or_true, and_self, and_true, true_and, xe_ifnonnull_n, xe_ifnonnull_r, xe_new, xe_dup, jx_2_i, jx_2_l, jx_2_r, jx_2_n, jx_2_q, or_self, xe_spc0, xk_qast, ja_qs, ak_R, ak_P, xe_goto_w, xe_astore, xe_ifnull_n, xe_ifnull_r, xi_1, xx_1, xe_goto, xi_0, xx_0, xk_putf, jx_pf_i, jx_pf_z, jx_pf_l, jx_pf_r, jx_pf_n, jx_pf_q, xe_inv1, jx_cl9_i, xe_pop, jx_s1, List.set_cons_zero, List.set_cons_succ, jx_2_u, jx_2_s, jx_k_i, jx_k_l, jx_k_r, jx_k_n, jx_k_u, jx_k_s, jx_k_q, sw_r, sw_f, i1, ei, va_rf_s, va_rf_n, rd, wr, o1, r3]
theorem sc_imageA (hn : n < 4) (ei : im n = some r) (hr : 151 ≤ r) : jx_cr (d + 3) 54 [.ref 48, .int (nI n)] (sw h cu F o p q z T x ru im tp R) = jx_eb (d + 2) 54 36 [.ref 48, .int (nI n), jx_un] [] (sw h cu F o p q z T x ru im tp R) := by
  have i1 := sp_ix hn (by decide)
  have r3 : 3 ≤ r := by omega
  have hq : 0 ≤ (nI n).toInt64 ∧ (nI n).toInt64 ≤ 3 := sp_rg (a := 0) (b := 3) (by omega) (by omega) (by omega)
  simp only [cr_54, eb_54_0, eb_54_14, jx_ns_r, jx_ns_n, jx_ns_q, jx_ns_i, jx_gl_0, jx_gl_s, if_true, if_false, ite_true, ite_false, eq_self, Bool.false_eq_true, List.length_cons, List.length_nil, Nat.zero_le, Nat.reduceAdd, Nat.reduceSub, Nat.reduceLeDiff, Nat.reduceLT, Nat.reduceEqDiff, Int.reduceToNat, reduceIte, xk_iload, jx_iv_i, ak_I, xe_i2l, xe_lconst, xl_0, xl_3, xe_sta3, jx_cc_i, jx_cc_v, Nat.reduceMod, Nat.reduceDiv, xe_ifne, xe_iconst, xi_m1, xe_ireturn, xe_aload, jx_rv_r, jx_rv_n, jx_rv_q, xk_getf, jx_gf_i, jx_ov_s, ak_V, xk_qald, ja_qa, ak_A, ak_Q, true_or, or_true, and_self, and_true, true_and, xe_ifnonnull_n, xe_ifnonnull_r, xe_new, xe_dup, jx_2_i, jx_2_l, jx_2_r, jx_2_n, jx_2_q, or_self, xe_spc0, xk_qast, ja_qs, ak_R, ak_P, xe_goto_w, xe_astore, xe_ifnull_n, xe_ifnull_r, xi_1, xx_1, xe_goto, xi_0, xx_0, xk_putf, jx_pf_i, jx_pf_z, jx_pf_l, jx_pf_r, jx_pf_n, jx_pf_q, xe_inv1, jx_cl9_i, xe_pop, jx_s1, List.set_cons_zero, List.set_cons_succ, jx_2_u, jx_2_s, jx_k_i, jx_k_l, jx_k_r, jx_k_n, jx_k_u, jx_k_s, jx_k_q, cq_inL, hq, and_self, sp_10, sw_r, sw_f, i1, ei, va_rf_s, r3]
theorem sc_imageB (hn : n < 4) (ei : im n = none) (hh : 151 ≤ h.2.1) : jx_cr (d + 4) 54 [.ref 48, .int (nI n)] (sw h cu F o p q z T x ru im tp R) = jx_eb (d + 3) 54 36 [.ref 48, .int (nI n), jx_un] [] (sw (im_new h) cu F o p q z T x ru (va_up im n (some h.2.1)) tp R) := by
  have i1 := sp_ix hn (by decide)
  have h3 : 3 ≤ h.2.1 := by omega
  have hq : 0 ≤ (nI n).toInt64 ∧ (nI n).toInt64 ≤ 3 := sp_rg (a := 0) (b := 3) (by omega) (by omega) (by omega)
  have ii := Image_init (d := d + 1) (H := (sw h cu F o p q z T x ru im tp R)) (show 3 ≤ h.2.1 by omega)
  have e1 : im_new (sw h cu F o p q z T x ru im tp R) = sw (im_new h) cu F o p q z T x ru im tp R := by
    refine Prod.ext ?_ rfl
    show (im_put (sw h cu F o p q z T x ru im tp R) h.2.1 0 0 0 cq_z).1 = _
    rw [sw_im (by omega)]
    rfl
  rw [e1] at ii
  have ii2 : jx_cr (d + 1 + 2) 183 [.ref h.2.1] (jx_new (sw h cu F o p q z T x ru im tp R) (.inr (15, jx_nf 15)) (jx_nf 15).length) = some (.inl none, sw (im_new h) cu F o p q z T x ru im tp R) := ii
  have rd : (sw (im_new h) cu F o p q z T x ru im tp R).1 h.2.1 = .inr (15, [.ref (h.2.1 + 1), .int 0, .int 0, .int 0]) := by
    rw [sw_out (by omega)]; exact im_r
  have et : jx_et 7 = 15 := rfl
  simp only [cr_54, eb_54_0, eb_54_14, jx_ns_r, jx_ns_n, jx_ns_q, jx_ns_i, jx_gl_0, jx_gl_s, if_true, if_false, ite_true, ite_false, eq_self, Bool.false_eq_true, List.length_cons, List.length_nil, Nat.zero_le, Nat.reduceAdd, Nat.reduceSub, Nat.reduceLeDiff, Nat.reduceLT, Nat.reduceEqDiff, Int.reduceToNat, reduceIte, xk_iload, jx_iv_i, ak_I, xe_i2l, xe_lconst, xl_0, xl_3, xe_sta3, jx_cc_i, jx_cc_v, Nat.reduceMod, Nat.reduceDiv, xe_ifne, xe_iconst, xi_m1, xe_ireturn, xe_aload, jx_rv_r, jx_rv_n, jx_rv_q, xk_getf, jx_gf_i, jx_ov_s, ak_V, xk_qald, ja_qa, ak_A, ak_Q, true_or, or_true, and_self, and_true, true_and, xe_ifnonnull_n, xe_ifnonnull_r, xe_new, xe_dup, jx_2_i, jx_2_l, jx_2_r, jx_2_n, jx_2_q, or_self, xe_spc0, xk_qast, ja_qs, ak_R, ak_P, xe_goto_w, xe_astore, xe_ifnull_n, xe_ifnull_r, xi_1, xx_1, xe_goto, xi_0, xx_0, xk_putf, jx_pf_i, jx_pf_z, jx_pf_l, jx_pf_r, jx_pf_n, jx_pf_q, xe_inv1, jx_cl9_i, xe_pop, jx_s1, List.set_cons_zero, List.set_cons_succ, jx_2_u, jx_2_s, jx_k_i, jx_k_l, jx_k_r, jx_k_n, jx_k_u, jx_k_s, jx_k_q, cq_inL, hq, and_self, sp_10, sw_r, sw_f, sw_sz, i1, ei, va_rf_n, h3, ii2, rd, et, sw_wim]
theorem sc_back0 (hq : ¬ (0 ≤ i.toInt64 ∧ i.toInt64 ≤ 3)) : jx_cr (d + 2) 55 [.ref 48, .int i] (sw h cu F o p q z T x ru im tp R) = some (.inl (some (.int (-1))), (sw h cu F o p q z T x ru im tp R)) := by
  simp only [cr_55, eb_55_0, eb_55_21, jx_ns_r, jx_ns_n, jx_ns_q, jx_ns_i, jx_gl_0, jx_gl_s, if_true, if_false, ite_true, ite_false, eq_self, Bool.false_eq_true, List.length_cons, List.length_nil, Nat.zero_le, Nat.reduceAdd, Nat.reduceSub, Nat.reduceLeDiff, Nat.reduceLT, Nat.reduceEqDiff, Int.reduceToNat, reduceIte, xk_iload, jx_iv_i, ak_I, xe_i2l, xe_lconst, xl_0, xl_3, xe_sta3, jx_cc_i, jx_cc_v, Nat.reduceMod, Nat.reduceDiv, xe_ifeq, xe_aload, jx_rv_r, jx_rv_n, jx_rv_q, xk_getf, jx_gf_i, jx_ov_s, ak_V, xk_qald, ja_qa, ak_A, ak_Q, true_or, or_true, and_self, and_true, true_and, xe_ifnonnull_n, xe_ifnonnull_r, xe_goto_w, xe_iconst, xi_m1, xe_ireturn, xe_inv1, jx_cl9_i, xe_goto, xe_null, xk_putf, ak_P, jx_pf_i, jx_pf_z, jx_pf_l, jx_pf_r, jx_pf_n, jx_pf_q, xi_0, xx_0, cq_inL, hq]
theorem sc_back1 (hn : n < 4) (ei : im n = none) : jx_cr (d + 2) 55 [.ref 48, .int (nI n)] (sw h cu F o p q z T x ru im tp R) = some (.inl (some (.int (-1))), (sw h cu F o p q z T x ru im tp R)) := by
  have i1 := sp_ix hn (by decide)
  have hq : 0 ≤ (nI n).toInt64 ∧ (nI n).toInt64 ≤ 3 := sp_rg (a := 0) (b := 3) (by omega) (by omega) (by omega)
  simp only [cr_55, eb_55_0, eb_55_21, jx_ns_r, jx_ns_n, jx_ns_q, jx_ns_i, jx_gl_0, jx_gl_s, if_true, if_false, ite_true, ite_false, eq_self, Bool.false_eq_true, List.length_cons, List.length_nil, Nat.zero_le, Nat.reduceAdd, Nat.reduceSub, Nat.reduceLeDiff, Nat.reduceLT, Nat.reduceEqDiff, Int.reduceToNat, reduceIte, xk_iload, jx_iv_i, ak_I, xe_i2l, xe_lconst, xl_0, xl_3, xe_sta3, jx_cc_i, jx_cc_v, Nat.reduceMod, Nat.reduceDiv, xe_ifeq, xe_aload, jx_rv_r, jx_rv_n, jx_rv_q, xk_getf, jx_gf_i, jx_ov_s, ak_V, xk_qald, ja_qa, ak_A, ak_Q, true_or, or_true, and_self, and_true, true_and, xe_ifnonnull_n, xe_ifnonnull_r, xe_goto_w, xe_iconst, xi_m1, xe_ireturn, xe_inv1, jx_cl9_i, xe_goto, xe_null, xk_putf, ak_P, jx_pf_i, jx_pf_z, jx_pf_l, jx_pf_r, jx_pf_n, jx_pf_q, xi_0, xx_0, cq_inL, hq, and_self, sp_10, sw_r, sw_f, i1, ei, va_rf_n]
theorem sc_back (hn : n < 4) (ei : im n = some r) (hI : sp_img h r 1 x0 f0 C) : jx_cr (d + 3) 55 [.ref 48, .int (nI n)] (sw h cu F (s, a, w) p q z T x ru im tp R) = some (.inl (some (.int (C.1 7))), sw h (some 49) (va_up (va_up F 5 x0) 6 f0) (C.1, (fun j => cq_fl (cq_len j) (C.2.1 j) (a j)), w) p q z T x ru im tp R) := by
  obtain ⟨sC, aC, wC⟩ := C
  obtain ⟨eh, hr, hl⟩ := hI
  have i1 := sp_ix hn (by decide)
  have r3 : 3 ≤ r := by omega
  have hq : 0 ≤ (nI n).toInt64 ∧ (nI n).toInt64 ≤ 3 := sp_rg (a := 0) (b := 3) (by omega) (by omega) (by omega)
  have rd : ∀ cu F o, (sw h cu F o p q z T x ru im tp R).1 r = .inr (15, [.ref (r + 1), .int 1, .int x0, .int f0]) := fun cu F o => by rw [sw_out (by omega), ← eh]; exact im_r
  have cp : ∀ d cu F, jx_cr (d + 2) 167 [.ref 49, .ref (r + 1)] (sw h cu F (s, a, w) p q z T x ru im tp R) = some (.inl (some (.ref 49)), sw h cu F (sC, (fun j => cq_fl (cq_len j) (aC j) (a j)), w) p q z T x ru im tp R) := fun d cu F => by
    have hc : cq_is (sw h cu F (s, a, w) p q z T x ru im tp R) (r + 1) sC aC := by
      have e2 := im_is (h := h) (r := r) (t := 1) (x := x0) (f := f0) (s := sC) (a := aC) (w := wC)
      rw [eh] at e2
      unfold cq_is at e2 ⊢
      simp only [sw_out (show r + 1 < 48 ∨ 113 ≤ r + 1 by omega), sw_out (show r + 1 + 1 < 48 ∨ 113 ≤ r + 1 + 1 by omega), sw_out (show r + 1 + 2 < 48 ∨ 113 ≤ r + 1 + 2 by omega), sw_out (show r + 1 + 3 < 48 ∨ 113 ≤ r + 1 + 3 by omega), sw_out (show r + 1 + 4 < 48 ∨ 113 ≤ r + 1 + 4 by omega), sw_out (show r + 1 + 5 < 48 ∨ 113 ≤ r + 1 + 5 by omega), sw_out (show r + 1 + 6 < 48 ∨ 113 ≤ r + 1 + 6 by omega), sw_out (show r + 1 + 7 < 48 ∨ 113 ≤ r + 1 + 7 by omega), sw_out (show r + 1 + 8 < 48 ∨ 113 ≤ r + 1 + 8 by omega), sw_out (show r + 1 + 9 < 48 ∨ 113 ≤ r + 1 + 9 by omega), sw_out (show r + 1 + 10 < 48 ∨ 113 ≤ r + 1 + 10 by omega), sw_out (show r + 1 + 11 < 48 ∨ 113 ≤ r + 1 + 11 by omega)]
      exact e2
    have := cq_copies (d := d) (b := 49) (c := r + 1) (s := s) (a := a) (w := w) (by omega) (by omega) hc
    rwa [sw_o, sw_o] at this
  simp only [cr_55, eb_55_0, eb_55_21, eb_55_23, eb_55_55, eb_55_56, eb_55_96, eb_55_103, jx_ns_r, jx_ns_n, jx_ns_q, jx_ns_i, jx_gl_0, jx_gl_s, if_true, if_false, ite_true, ite_false, eq_self, Bool.false_eq_true, List.length_cons, List.length_nil, Nat.zero_le, Nat.reduceAdd, Nat.reduceSub, Nat.reduceLeDiff, Nat.reduceLT, Nat.reduceEqDiff, Int.reduceToNat, reduceIte, xk_iload, jx_iv_i, ak_I, xe_i2l, xe_lconst, xl_0, xl_3, xe_sta3, jx_cc_i, jx_cc_v, Nat.reduceMod, Nat.reduceDiv, xe_ifeq, xe_aload, jx_rv_r, jx_rv_n, jx_rv_q, xk_getf, jx_gf_i, jx_ov_s, ak_V, xk_qald, ja_qa, ak_A, ak_Q, true_or, or_true, and_self, and_true, true_and, xe_ifnonnull_n, xe_ifnonnull_r, xe_goto_w, xe_iconst, xi_m1, xe_ireturn, xe_inv1, jx_cl9_i, xe_goto, xe_null, xk_putf, ak_P, jx_pf_i, jx_pf_z, jx_pf_l, jx_pf_r, jx_pf_n, jx_pf_q, xi_0, xx_0, sw_r, sw_f, sw_s, sw_wo, sw_ro, sw_rp, sw_woo, sw_wor, sw_wpo, sw_wpr, cq_f, cq_s, va_up_s, va_rf_s, va_rf_n, cq_inL, hq, and_self, sp_10, i1, ei, r3, rd, List.getElem?_cons_zero, List.getElem?_cons_succ, cp, sw_s0r]
theorem sc_backn (hn : n < 4) (ei : im n = some r) (hI : sp_img h r 0 x0 f0 C) : jx_cr (d + 3) 55 [.ref 48, .int (nI n)] (sw h cu F o p q z T x ru im tp R) = some (.inl (some (.int 0)), sw h none (va_up (va_up F 5 x0) 6 f0) o p q z T x ru im tp R) := by
  obtain ⟨eh, hr, hl⟩ := hI
  have i1 := sp_ix hn (by decide)
  have r3 : 3 ≤ r := by omega
  have hq : 0 ≤ (nI n).toInt64 ∧ (nI n).toInt64 ≤ 3 := sp_rg (a := 0) (b := 3) (by omega) (by omega) (by omega)
  have rd : ∀ cu F o, (sw h cu F o p q z T x ru im tp R).1 r = .inr (15, [.ref (r + 1), .int 0, .int x0, .int f0]) := fun cu F o => by rw [sw_out (by omega), ← eh]; exact im_r
  simp only [cr_55, eb_55_0, eb_55_21, eb_55_23, eb_55_55, eb_55_56, eb_55_96, eb_55_103, jx_ns_r, jx_ns_n, jx_ns_q, jx_ns_i, jx_gl_0, jx_gl_s, if_true, if_false, ite_true, ite_false, eq_self, Bool.false_eq_true, List.length_cons, List.length_nil, Nat.zero_le, Nat.reduceAdd, Nat.reduceSub, Nat.reduceLeDiff, Nat.reduceLT, Nat.reduceEqDiff, Int.reduceToNat, reduceIte, xk_iload, jx_iv_i, ak_I, xe_i2l, xe_lconst, xl_0, xl_3, xe_sta3, jx_cc_i, jx_cc_v, Nat.reduceMod, Nat.reduceDiv, xe_ifeq, xe_aload, jx_rv_r, jx_rv_n, jx_rv_q, xk_getf, jx_gf_i, jx_ov_s, ak_V, xk_qald, ja_qa, ak_A, ak_Q, true_or, or_true, and_self, and_true, true_and, xe_ifnonnull_n, xe_ifnonnull_r, xe_goto_w, xe_iconst, xi_m1, xe_ireturn, xe_inv1, jx_cl9_i, xe_goto, xe_null, xk_putf, ak_P, jx_pf_i, jx_pf_z, jx_pf_l, jx_pf_r, jx_pf_n, jx_pf_q, xi_0, xx_0, sw_r, sw_f, sw_s, sw_wo, sw_ro, sw_rp, sw_woo, sw_wor, sw_wpo, sw_wpr, cq_f, cq_s, va_up_s, va_rf_s, va_rf_n, cq_inL, hq, and_self, sp_10, i1, ei, r3, rd, List.getElem?_cons_zero, List.getElem?_cons_succ, sw_s0n]
end SDA
