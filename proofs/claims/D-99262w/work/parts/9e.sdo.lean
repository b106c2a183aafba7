/-! TEXTS: a rule told; SpoonCourt.rule -/
set_option maxRecDepth 100000
theorem Rule_init {d : Nat} {H : jx_H} {r : Nat} (h3 : 3 ≤ r) (e : H.1 r = .inr (5, jx_nf 5)) (hr : r < H.2.1) : jx_cr (d + 1) 190 [.ref r] H = some (.inl none, jx_put (jx_new H (.inl (6, 12, .inr (.inr (.inr (.inr fun _ => none))))) 12) r (.inr (5, [.ref H.2.1, .int 0]))) := by
  rw [nf_1.2.2.2.2.2.2.1] at e
  have q : jx_Q 6 12 (fun _ => none) = .inl (6, 12, .inr (.inr (.inr (.inr fun _ => none)))) := rfl
  have t12 : (0 : Int) ≤ (12 : Int32).toInt ∧ (12 : Int32).toInt ≤ 65536 := by decide
  have n12 : (12 : Int32).toNatClampNeg = 12 := by decide
  have rd : (jx_new H (.inl (6, 12, .inr (.inr (.inr (.inr fun _ => none))))) 12).1 r = .inr (5, [.null, .int 0]) := by rw [jx_new_at, if_neg (by omega), e]
  have h3' : 3 ≤ H.2.1 := by omega
  have et : 4 ≤ 6 ∧ 6 < 8 := by omega
  simp only [cr_190, eb_190_0, jx_ns_r, jx_ns_n, jx_ns_q, jx_ns_i, jx_gl_0, jx_gl_s, if_true, if_false, ite_true, ite_false, eq_self, Bool.false_eq_true, List.length_cons, List.length_nil, Nat.zero_le, Nat.reduceAdd, Nat.reduceSub, Nat.reduceLeDiff, Nat.reduceLT, Nat.reduceEqDiff, Int.reduceToNat, reduceIte, xe_aload, jx_rv_r, jx_rv_n, jx_rv_q, xe_obj, and_self, and_true, true_and, xe_iconst, xi_12, xx_12, xe_newq, xk_putf, ak_P, jx_pf_i, jx_pf_z, jx_pf_l, jx_pf_r, jx_pf_n, jx_pf_q, Nat.reduceMod, Nat.reduceDiv, xe_return, h3, h3', et, xe_newq et t12, n12, q, rd, List.set_cons_zero]
section SDO
variable {d : Nat} {h : jx_H} {cu : Option Nat} {F : Nat → Int32} {o p q z : cq_C} {T : List Value} {x : Int32 × Int32} {ru im : Nat → Option Nat} {tp : Nat → Int32} {R : Nat → Nat → Int32} {s : Nat → Int32} {a : Nat → Nat → Int32} {w : Nat → Int64}
variable {t M n g e u : Nat} {u' e' g' : Int32}
theorem T_ruleTold (hT : T.length = 6) (ht : 151 ≤ t) (eM : F 9 = nI M) (hM : M ≤ 400) (hth : t < h.2.1) (hs : ss_ok h) :
    (∀ k pl, rls tp M (M + 1) 0 0 0 = .inl (k, pl) → (k ≤ 4 ∧ pl ≤ M) ∧ ∃ h1 n2 e2 g2 u2, ex h h1 (M + 2) ∧ jx_cr (d + 49) 214 [.ref t] (sw (tx h t (nI 0) (nI 0) (nI 0) (nI 0)) cu F o p q z T x ru im tp R) = some (.inr (), (sw (tx h1 t (n2) (e2) (g2) (u2)) cu F o p q z T (nI k, nI pl) ru im tp R))) ∧
    (∀ cs, rls tp M (M + 1) 0 0 0 = .inr cs → ∃ h1 n2 e2 g2 u2, ex h h1 (M + 2) ∧ rul h1 h.2.1 h1.2.1 h.2.1 (h.2.1 + 1) cs ∧ jx_cr (d + 49) 214 [.ref t] (sw (tx h t (nI 0) (nI 0) (nI 0) (nI 0)) cu F o p q z T x ru im tp R) = some (.inl (some (.ref h.2.1)), (sw (tx h1 t (n2) (e2) (g2) (u2)) cu F o p q z T x ru im tp R))) := by
  have t3 : 3 ≤ t := by omega
  have hr3 : 3 ≤ h.2.1 := by omega
  have e0 : ex h (jx_new h (.inr (5, jx_nf 5)) (jx_nf 5).length) 1 := ex_new ex_refl rfl (by rw [nf_1.2.2.2.2.2.2.1]; show 2 ≤ 16; omega) (Nat.le_refl _)
  have nw := txw_new (h := h) (x := x) (cu := cu) (F := F) (o := o) (p := p) (q := q) (z := z) (T := T) (ru := ru) (im := im) (tp := tp) (R := R) (t := t) (u' := nI 0) (n' := nI 0) (e' := nI 0) (g' := nI 0) (y := .inr (5, jx_nf 5)) (c := (jx_nf 5).length) (by omega) (by omega)
  have ri := Rule_init (d := d + 47) (r := h.2.1) (H := (sw (tx (jx_new h (.inr (5, jx_nf 5)) (jx_nf 5).length) t (nI 0) (nI 0) (nI 0) (nI 0)) cu F o p q z T x ru im tp R)) hr3 (by rw [txw_at (by omega) (by omega), jx_new_at, if_pos rfl]) (by show h.2.1 < h.2.1 + 1; omega)
  have ez : ((sw (tx (jx_new h (.inr (5, jx_nf 5)) (jx_nf 5).length) t (nI 0) (nI 0) (nI 0) (nI 0)) cu F o p q z T x ru im tp R)).2.1 = h.2.1 + 1 := rfl
  rw [ez, txw_new (by rw [jx_new_sz]; show t < h.2.1 + 1; omega) (by rw [jx_new_sz]; show 113 ≤ h.2.1 + 1; omega), txw_put (by omega) (by omega)] at ri
  have e1 : ex h (jx_put (jx_new (jx_new h (.inr (5, jx_nf 5)) (jx_nf 5).length) (.inl (6, 12, .inr (.inr (.inr (.inr fun _ => none))))) 12) h.2.1 (.inr (5, [.ref (h.2.1 + 1), .int 0]))) 2 := ex_put (ex_new e0 rfl (by omega) (Nat.le_refl _)) rfl (Nat.le_refl _)
  generalize eh1 : jx_put (jx_new (jx_new h (.inr (5, jx_nf 5)) (jx_nf 5).length) (.inl (6, 12, .inr (.inr (.inr (.inr fun _ => none))))) 12) h.2.1 (.inr (5, [.ref (h.2.1 + 1), .int 0])) = h1 at *
  have r1 : rul h1 h.2.1 h1.2.1 h.2.1 (h.2.1 + 1) [] := by
    have z1 : h1.2.1 = h.2.1 + 1 + 1 := by rw [← eh1]; rfl
    refine ⟨⟨hr3, Nat.le_refl _, by omega⟩, ⟨by omega, by omega⟩, by show 0 ≤ 12; omega, by rw [← eh1, jx_put_at, if_pos rfl]; rfl, fun _ => none, ?_, fun k C hk => by cases hk⟩
    rw [← eh1, jx_put_at, if_neg (by omega), jx_new_at]
    exact if_pos rfl
  have go := T_rulel (cu := cu) (F := F) (o := o) (p := p) (q := q) (z := z) (T := T) (ru := ru) (im := im) (tp := tp) (R := R) (t := t) hT ht eM hM (hB := h) rfl hth hs (M + 1) d h1 0 0 0 x [] 2 jx_un (.inl rfl) e1 r1 rfl (by omega) (by omega) (by omega)
  have st : jx_cr (d + 49) 214 [.ref t] (sw (tx h t (nI 0) (nI 0) (nI 0) (nI 0)) cu F o p q z T x ru im tp R) = jx_eb (d + 48) 214 8 [.ref t, .ref h.2.1, jx_un] [] (sw (tx h1 t (nI 0) (nI 0) (nI 0) (nI 0)) cu F o p q z T x ru im tp R) := by
    simp only [cr_214, eb_214_0, jx_ns_r, jx_ns_n, jx_ns_q, jx_ns_i, jx_gl_0, jx_gl_s, if_true, if_false, ite_true, ite_false, eq_self, Bool.false_eq_true, List.length_cons, List.length_nil, Nat.zero_le, Nat.reduceAdd, Nat.reduceSub, Nat.reduceLeDiff, Nat.reduceLT, Nat.reduceEqDiff, Int.reduceToNat, reduceIte, xe_new, xe_dup, jx_2_i, jx_2_l, jx_2_r, jx_2_n, jx_2_q, or_self, xe_spc0, jx_cc_i, jx_cc_v, Nat.reduceMod, Nat.reduceDiv, xe_astore, jx_rv_r, jx_rv_n, jx_rv_q, xe_goto_w, xe_aload, xe_inv0, jx_cl9_i, xe_pop, xk_getf, jx_gf_i, jx_ov_s, ak_V, xe_istore, xe_inv1, xe_ifne, xe_iconst, xi_1, xx_1, xe_goto, xi_0, xx_0, xk_iload, jx_iv_i, ak_I, xe_inv3, xi_12, xx_12, xe_icmp_ge, xi_4, xx_4, xe_iadd, xk_putf, ak_P, jx_pf_i, jx_pf_z, jx_pf_l, jx_pf_r, jx_pf_n, jx_pf_q, xk_qast, ja_qs, ak_R, and_self, and_true, true_and, xi_59, xe_areturn_n, xe_areturn_r, jx_s1, List.set_cons_zero, List.set_cons_succ, jx_2_u, jx_2_s, jx_k_i, jx_k_l, jx_k_r, jx_k_n, jx_k_u, jx_k_s, jx_k_q, nw, hr3, txw_sz, ri]
  rw [st]
  refine ⟨fun k pl hk => ?_, fun cs hk => ?_⟩
  · obtain ⟨y1, h3, n3, e3, g3, u3, y2, y3⟩ := go.1 k pl hk
    exact ⟨y1, h3, n3, e3, g3, u3, ex_le y2 (by omega), y3⟩
  · obtain ⟨h3, n3, e3, g3, u3, y2, y3, y4⟩ := go.2 cs hk
    exact ⟨h3, n3, e3, g3, u3, ex_le y2 (by omega), y3, y4⟩
/-- h' is h and at most c cells after it -/
def ey (h h' : jx_H) (c : Nat) : Prop := (h.2.1 ≤ h'.2.1 ∧ h'.2.1 ≤ h.2.1 + c) ∧ (h.2.2 ≤ h'.2.2 ∧ h'.2.2 ≤ h.2.2 + 16 * (h'.2.1 - h.2.1)) ∧ ∀ j, j < h.2.1 → h'.1 j = h.1 j
theorem ey_refl {c : Nat} : ey h h c := ⟨⟨Nat.le_refl _, by omega⟩, ⟨Nat.le_refl _, by omega⟩, fun _ _ => rfl⟩
theorem ey_tr {h1 h2 : jx_H} {c1 c2 c : Nat} (q : ey h h1 c1) (r : ey h1 h2 c2) (l : c1 + c2 ≤ c) : ey h h2 c := by
  obtain ⟨⟨a1, a2⟩, ⟨a3, a4⟩, a5⟩ := q
  obtain ⟨⟨b1, b2⟩, ⟨b3, b4⟩, b5⟩ := r
  exact ⟨⟨by omega, by omega⟩, ⟨by omega, by omega⟩, fun j hj => (b5 j (by omega)).trans (a5 j hj)⟩
theorem ey_rule {h1 : jx_H} {c D r : Nat} {L : (Nat → Int64) → Int64} (q : ey h h1 c) (hr : sp_rule D h r L) : sp_rule D h1 r L := by
  obtain ⟨⟨a1, a2⟩, ⟨fs, a3⟩, a4, a5⟩ := hr
  obtain ⟨⟨b1, b2⟩, b3, b4⟩ := q
  refine ⟨⟨a1, by omega⟩, ⟨fs, (b4 r a2).trans a3⟩, a4, fun H hA => a5 H (fun j j1 j2 j3 => ?_)⟩
  have := hA j j1 (by omega) (by rw [b4 j j2]; exact j3)
  rw [this, b4 j j2]
theorem ey_ss {h1 : jx_H} {c : Nat} (q : ey h h1 c) (hh : 48 ≤ h.2.1) (hs : ss_ok h) : ss_ok h1 := by
  intro i hi
  rw [q.2.2 _ (by omega), q.2.2 _ (by omega)]
  exact hs i hi
theorem nf_4 : jx_nf 4 = [.null, .null, .int 0, .int 0, .int 0, .int 0, .null] := rfl
/-- a new Text -/
theorem Text_init (hh : 151 ≤ h.2.1) : jx_cr (d + 1) 193 [.ref h.2.1, .ref 48] (jx_new (sw h cu F o p q z T x ru im tp R) (.inr (4, jx_nf 4)) (jx_nf 4).length) = some (.inl none, sw (tx (jx_new h (.inr (4, jx_nf 4)) (jx_nf 4).length) h.2.1 (nI 0) (nI 0) (nI 0) (nI 0)) cu F o p q z T x ru im tp R) := by
  have h3 : 3 ≤ h.2.1 := by omega
  rw [sw_new (by omega)]
  have rd : ∀ y, (sw (jx_put (jx_new h (.inr (4, jx_nf 4)) (jx_nf 4).length) h.2.1 y) cu F o p q z T x ru im tp R).1 h.2.1 = y := fun y => by rw [sw_out (by omega), jx_put_at, if_pos rfl]
  have wr : ∀ H y, jx_put (sw H cu F o p q z T x ru im tp R) h.2.1 y = sw (jx_put H h.2.1 y) cu F o p q z T x ru im tp R := fun H y => sw_put (.inr (by omega))
  have r0 : (sw (jx_new h (.inr (4, jx_nf 4)) (jx_nf 4).length) cu F o p q z T x ru im tp R).1 h.2.1 = .inr (4, [.null, .null, .int 0, .int 0, .int 0, .int 0, .null]) := by rw [sw_out (by omega), jx_new_at, if_pos rfl, nf_4]
  have e4 : tx (jx_new h (.inr (4, jx_nf 4)) (jx_nf 4).length) h.2.1 (nI 0) (nI 0) (nI 0) (nI 0) = jx_put (jx_new h (.inr (4, jx_nf 4)) (jx_nf 4).length) h.2.1 (.inr (4, [.ref 105, .ref 75, .int 0, .int 0, .int 0, .int 0, .ref 48])) := rfl
  rw [e4]
  simp only [cr_193 jx_ns_r, eb_193_0, jx_ns_r, jx_ns_n, jx_ns_q, jx_ns_i, jx_gl_0, jx_gl_s, if_true, if_false, ite_true, ite_false, eq_self, Bool.false_eq_true, List.length_cons, List.length_nil, Nat.zero_le, Nat.reduceAdd, Nat.reduceSub, Nat.reduceLeDiff, Nat.reduceLT, Nat.reduceEqDiff, Int.reduceToNat, reduceIte, xe_aload, jx_rv_r, jx_rv_n, jx_rv_q, xk_putf, ak_P, jx_pf_i, jx_pf_z, jx_pf_l, jx_pf_r, jx_pf_n, jx_pf_q, Nat.reduceMod, Nat.reduceDiv, xe_obj, and_self, and_true, true_and, xk_getf, jx_gf_i, jx_ov_s, ak_V, xe_return, h3, r0, wr, rd, jx_pp, sw_r, sw_f, List.getElem?_cons_zero, List.getElem?_cons_succ, List.set_cons_zero, List.set_cons_succ]
theorem SC_faulted (hT : T.length = 6) : jx_cr (d + 1) 7 [.ref 48] (sw h cu F o p q z T x ru im tp R) = some (.inl (some (.int (-2 - (1 + 8 * x.2 + x.1)))), (sw h cu F o p q z T x ru im tp R)) := by
  have rd : ((sw h cu F o p q z T x ru im tp R)).1 101 = .inr (2, T ++ [.int x.1, .int x.2]) := rfl
  simp only [cr_7, eb_7_0, jx_ns_r, jx_ns_n, jx_ns_q, jx_ns_i, jx_gl_0, jx_gl_s, if_true, if_false, ite_true, ite_false, eq_self, Bool.false_eq_true, List.length_cons, List.length_nil, Nat.zero_le, Nat.reduceAdd, Nat.reduceSub, Nat.reduceLeDiff, Nat.reduceLT, Nat.reduceEqDiff, Int.reduceToNat, reduceIte, xe_iconst, xi_m2, xi_1, xx_1, xi_8, xx_8, xe_aload, jx_rv_r, jx_rv_n, jx_rv_q, xk_getf, jx_gf_i, jx_ov_s, ak_V, xe_imul, xe_iadd, xe_isub, xe_ireturn, sw_r, sw_f, rd, (ft_f hT).1, (ft_f hT).2]
variable {rm : Nat}
theorem swz : ((sw h cu F o p q z T x ru im tp R)).2 = h.2 := rfl
theorem sc_rule0 (e14 : F 14 = nI 6) : jx_cr (d + 1) 9 [.ref 48] (sw h cu F o p q z T x ru im tp R) = some (.inl (some (.int (-1))), (sw h cu F o p q z T x ru im tp R)) := by
  have h6 : nI 6 = 6 := rfl
  rw [h6] at e14
  simp only [cr_9, eb_9_0, jx_ns_r, jx_ns_n, jx_ns_q, jx_ns_i, jx_gl_0, jx_gl_s, if_true, if_false, ite_true, ite_false, eq_self, Bool.false_eq_true, List.length_cons, List.length_nil, Nat.zero_le, Nat.reduceAdd, Nat.reduceSub, Nat.reduceLeDiff, Nat.reduceLT, Nat.reduceEqDiff, Int.reduceToNat, reduceIte, xe_aload, jx_rv_r, jx_rv_n, jx_rv_q, xk_getf, jx_gf_i, jx_ov_s, ak_V, xe_iconst, xi_6, xx_6, xe_icmp_ne, xi_m1, xe_ireturn, xe_istore, xe_new, xe_dup, jx_2_i, jx_2_l, jx_2_r, jx_2_n, jx_2_q, or_self, xe_spc1, jx_cc_i, jx_cc_v, Nat.reduceMod, Nat.reduceDiv, xe_inv0, jx_cl9_i, xk_qast, ja_qs, ak_R, ak_P, and_self, and_true, true_and, xi_1, xx_1, xe_iadd, xk_putf, jx_pf_i, jx_pf_z, jx_pf_l, jx_pf_r, jx_pf_n, jx_pf_q, xe_goto, xe_goto_w, xi_0, xx_0, xk_iload, jx_iv_i, ak_I, jx_s1, List.set_cons_zero, List.set_cons_succ, jx_2_u, jx_2_s, jx_k_i, jx_k_l, jx_k_r, jx_k_n, jx_k_u, jx_k_s, jx_k_q, sw_r, sw_f, e14]
theorem sc_rule1 (hT : T.length = 6) (eM : F 9 = nI M) (hM : M ≤ 400) (hh : 151 ≤ h.2.1) (hs : ss_ok h) (e14 : F 14 = nI rm) (hrm : rm < 6) :
    (∀ k pl, rls tp M (M + 1) 0 0 0 = .inl (k, pl) → (k ≤ 4 ∧ pl ≤ M) ∧ ∃ h1, ey h h1 (M + 3) ∧ jx_cr (d + 50) 9 [.ref 48] (sw h cu F o p q z T x ru im tp R) = some (.inl (some (.int (-2 - (1 + 8 * nI pl + nI k)))), sw h1 cu (va_up F 9 0) o p q z T (nI k, nI pl) ru im tp R)) ∧
    (∀ cs, rls tp M (M + 1) 0 0 0 = .inr cs → ∃ h1 r, ey h h1 (M + 3) ∧ sp_rule 410 h1 r (rlw cs) ∧ jx_cr (d + 50) 9 [.ref 48] (sw h cu F o p q z T x ru im tp R) = some (.inl (some (.int (nI rm))), sw h1 cu (va_up (va_up F 14 (nI (rm + 1))) 9 0) o p q z T x (va_up ru rm (some r)) im tp R)) := by
  have n6 : ¬ nI rm = 6 := fun z => by
    have := (nI_eq (a := rm) (b := 6) (by omega) (by omega)).mp z
    omega
  have h3 : 3 ≤ h.2.1 := by omega
  have ti := fun d => Text_init (d := d) (h := h) (F := F) (p := p) (q := q) (z := z) (T := T) (x := x) (ru := ru) (im := im) (tp := tp) (R := R) (cu := cu) (o := o) hh
  generalize eh0 : jx_new h (.inr (4, jx_nf 4)) (jx_nf 4).length = h0 at ti
  have z0 : h0.2.1 = h.2.1 + 1 := by rw [← eh0]; rfl
  have y0 : ey h h0 1 := by rw [← eh0]; exact ⟨⟨by show h.2.1 ≤ h.2.1 + 1; omega, by show h.2.1 + 1 ≤ h.2.1 + 1; omega⟩, ⟨by show h.2.2 ≤ h.2.2 + 7; omega, by show h.2.2 + 7 ≤ h.2.2 + 16 * (h.2.1 + 1 - h.2.1); omega⟩, fun j hj => by rw [jx_new_at, if_neg (by omega)]⟩
  have tx0 : ∀ (h1 : jx_H) (n2 e2 g2 u2 : Int32) (c : Nat), ex h0 h1 c → ey h (tx h1 h.2.1 n2 e2 g2 u2) (c + 1) := fun h1 n2 e2 g2 u2 c q => by
    have y1 : ey h h1 (c + 1) := ey_tr y0 ⟨q.1, q.2.1, q.2.2.1⟩ (by omega)
    exact ⟨y1.1, y1.2.1, fun j hj => by rw [tx_at (by omega)]; exact y1.2.2 j hj⟩
  have go := fun (d : Nat) => T_ruleTold (d := d) (h := h0) (x := x) (cu := cu) (F := F) (o := o) (p := p) (q := q) (z := z) (T := T) (ru := ru) (im := im) (tp := tp) (R := R) (t := h.2.1) hT hh eM hM (by omega) (ey_ss y0 (by omega) hs)
  have ir := sp_ix hrm (by decide)
  refine ⟨fun k pl hk => ?_, fun cs hk => ?_⟩
  · obtain ⟨y1, h1, n2, e2, g2, u2, y2, y3⟩ := (go d).1 k pl hk
    refine ⟨y1, _, tx0 h1 n2 e2 g2 u2 _ y2, ?_⟩
    have hd : ¬ 502 = 0 ∧ ¬ 502 = 1 := by omega
    have hx := fun (d : Nat) (c : List Instr) (ls st : List Value) (H : jx_H) => jx_cc_h (d := d) (y := 9) (c := c) (ls := ls) (st := st) (h := H) (hd := 502) hd.1 hd.2
    have sf := fun (d : Nat) => SC_faulted (d := d) (h := tx h1 h.2.1 n2 e2 g2 u2) (cu := cu) (F := F) (o := o) (p := p) (q := q) (z := z) (T := T) (ru := ru) (im := im) (tp := tp) (R := R) (x := (nI k, nI pl)) hT
    simp only [cr_9, eb_9_0, eb_9_11, eb_9_50, eb_9_55, jx_ns_r, jx_ns_n, jx_ns_q, jx_ns_i, jx_gl_0, jx_gl_s, if_true, if_false, ite_true, ite_false, eq_self, Bool.false_eq_true, List.length_cons, List.length_nil, Nat.zero_le, Nat.reduceAdd, Nat.reduceSub, Nat.reduceLeDiff, Nat.reduceLT, Nat.reduceEqDiff, Int.reduceToNat, reduceIte, xe_aload, jx_rv_r, jx_rv_n, jx_rv_q, xk_getf, jx_gf_i, jx_ov_s, ak_V, xe_iconst, xi_6, xx_6, xe_icmp_ne, xi_m1, xe_ireturn, xe_istore, xe_new, xe_dup, jx_2_i, jx_2_l, jx_2_r, jx_2_n, jx_2_q, or_self, xe_spc1, jx_cc_i, jx_cc_v, Nat.reduceMod, Nat.reduceDiv, xe_inv0, jx_cl9_i, xk_qast, ja_qs, ak_R, ak_P, and_self, and_true, true_and, xi_1, xx_1, xe_iadd, xk_putf, jx_pf_i, jx_pf_z, jx_pf_l, jx_pf_r, jx_pf_n, jx_pf_q, xe_goto, xe_goto_w, xi_0, xx_0, xk_iload, jx_iv_i, ak_I, jx_s1, List.set_cons_zero, List.set_cons_succ, jx_2_u, jx_2_s, jx_k_i, jx_k_l, jx_k_r, jx_k_n, jx_k_u, jx_k_s, jx_k_q, sw_r, sw_f, sw_s, sw_wo, sw_ro, sw_rp, sw_woo, sw_wor, sw_wpo, sw_wpr, cq_f, cq_s, va_up_s, va_rf_s, va_rf_n, e14, n6, h3, swz, ti, tx_r hh, y3, hx, jx_s1, List.set_cons_zero, List.set_cons_succ, sf]
  · obtain ⟨h1, n2, e2, g2, u2, y2, y3, y4⟩ := (go d).2 cs hk
    have hb : h0.2.1 ≤ h1.2.1 := y2.1.1
    have rdr : (sw (tx h1 h.2.1 n2 e2 g2 u2) cu F o p q z T x ru im tp R).1 h0.2.1 = .inr (5, [.ref (h0.2.1 + 1), .int (nI cs.length)]) := by
      rw [sw_out (by omega), tx_at (by omega)]; exact y3.2.2.2.1
    have et5 : (5 = jx_et 5) = True := eq_true rfl
    have h03 : 3 ≤ h0.2.1 := by omega
    refine ⟨_, h0.2.1, tx0 h1 n2 e2 g2 u2 _ y2, rul_sp (lo := h0.2.1) (hi := h1.2.1) (a := h0.2.1 + 1) (rul_mono y3 (fun j j1 j2 => tx_at (by omega))) (by have := y2.1.2; omega) (by omega) (by rw [tx_sz]; omega) (fun j j1 j2 => by rw [tx_at (by omega)]; exact y2.2.2.2 j j1 j2), ?_⟩
    simp only [cr_9, eb_9_0, eb_9_11, eb_9_55, jx_ns_r, jx_ns_n, jx_ns_q, jx_ns_i, jx_gl_0, jx_gl_s, if_true, if_false, ite_true, ite_false, eq_self, Bool.false_eq_true, List.length_cons, List.length_nil, Nat.zero_le, Nat.reduceAdd, Nat.reduceSub, Nat.reduceLeDiff, Nat.reduceLT, Nat.reduceEqDiff, Int.reduceToNat, reduceIte, xe_aload, jx_rv_r, jx_rv_n, jx_rv_q, xk_getf, jx_gf_i, jx_ov_s, ak_V, xe_iconst, xi_6, xx_6, xe_icmp_ne, xi_m1, xe_ireturn, xe_istore, xe_new, xe_dup, jx_2_i, jx_2_l, jx_2_r, jx_2_n, jx_2_q, or_self, xe_spc1, jx_cc_i, jx_cc_v, Nat.reduceMod, Nat.reduceDiv, xe_inv0, jx_cl9_i, xk_qast, ja_qs, ak_R, ak_P, and_self, and_true, true_and, xi_1, xx_1, xe_iadd, xk_putf, jx_pf_i, jx_pf_z, jx_pf_l, jx_pf_r, jx_pf_n, jx_pf_q, xe_goto, xe_goto_w, xi_0, xx_0, xk_iload, jx_iv_i, ak_I, jx_s1, List.set_cons_zero, List.set_cons_succ, jx_2_u, jx_2_s, jx_k_i, jx_k_l, jx_k_r, jx_k_n, jx_k_u, jx_k_s, jx_k_q, sw_r, sw_f, sw_s, sw_wo, sw_ro, sw_rp, sw_woo, sw_wor, sw_wpo, sw_wpr, cq_f, cq_s, va_up_s, va_rf_s, va_rf_n, e14, n6, h3, swz, ti, tx_r hh, sw_wru, y4, ir, rdr, et5, h03, nI_1]
end SDO
