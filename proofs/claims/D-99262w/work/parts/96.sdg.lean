/-! TEXTS: what is made; a value -/
set_option maxRecDepth 100000
theorem nf_1 : jx_nf 8 = [.long 0] ∧ jx_nf 9 = [.int 0] ∧ jx_nf 10 = [.null, .null, .int 0] ∧ jx_nf 12 = [.null] ∧ jx_nf 13 = [.null, .null, .int 0] ∧ jx_nf 14 = [.null, .null, .int 0] ∧ jx_nf 5 = [.null, .int 0] ∧ jx_nf 6 = [.null, .null] := ⟨rfl, rfl, rfl, rfl, rfl, rfl, rfl, rfl⟩
section CTO
variable {d r r1 r2 : Nat} {H : jx_H} {n : Int64} {v : Int32} {c1 c2 : Nat} {f1 f2 : List Value}
theorem Number_init (h3 : 3 ≤ r) (e : H.1 r = .inr (8, jx_nf 8)) : jx_cr (d + 2) 186 [.ref r, .long n] H = some (.inl none, jx_put H r (.inr (8, [.long n]))) := by
  rw [nf_1.1] at e
  simp only [cr_186, eb_186_0, jx_ns_r, jx_ns_n, jx_ns_q, jx_ns_i, jx_gl_0, jx_gl_s, if_true, if_false, ite_true, ite_false, eq_self, Bool.false_eq_true, List.length_cons, List.length_nil, Nat.zero_le, Nat.reduceAdd, Nat.reduceSub, Nat.reduceLeDiff, Nat.reduceLT, Nat.reduceEqDiff, Int.reduceToNat, reduceIte, xe_aload, jx_rv_r, jx_rv_n, jx_rv_q, xe_spc0, jx_cc_i, jx_cc_v, Nat.reduceMod, Nat.reduceDiv, xk_lload, jx_lv_l, ak_L, xk_putf, ak_P, jx_pf_i, jx_pf_z, jx_pf_l, jx_pf_r, jx_pf_n, jx_pf_q, xe_return, cr_222, eb_222_0, jx_ns_r, jx_ns_n, jx_ns_q, jx_ns_i, jx_gl_0, jx_gl_s, if_true, if_false, ite_true, ite_false, eq_self, Bool.false_eq_true, List.length_cons, List.length_nil, Nat.zero_le, Nat.reduceAdd, Nat.reduceSub, Nat.reduceLeDiff, Nat.reduceLT, Nat.reduceEqDiff, Int.reduceToNat, reduceIte, xe_aload, jx_rv_r, jx_rv_n, jx_rv_q, xe_obj, and_self, and_true, true_and, xe_return, e, h3, List.set_cons_zero]
theorem Word_init (h3 : 3 ≤ r) (e : H.1 r = .inr (9, jx_nf 9)) : jx_cr (d + 2) 223 [.ref r, .int v] H = some (.inl none, jx_put H r (.inr (9, [.int v]))) := by
  rw [nf_1.2.1] at e
  simp only [cr_223, eb_223_0, jx_ns_r, jx_ns_n, jx_ns_q, jx_ns_i, jx_gl_0, jx_gl_s, if_true, if_false, ite_true, ite_false, eq_self, Bool.false_eq_true, List.length_cons, List.length_nil, Nat.zero_le, Nat.reduceAdd, Nat.reduceSub, Nat.reduceLeDiff, Nat.reduceLT, Nat.reduceEqDiff, Int.reduceToNat, reduceIte, xe_aload, jx_rv_r, jx_rv_n, jx_rv_q, xe_spc0, jx_cc_i, jx_cc_v, Nat.reduceMod, Nat.reduceDiv, xk_iload, jx_iv_i, ak_I, xk_putf, ak_P, jx_pf_i, jx_pf_z, jx_pf_l, jx_pf_r, jx_pf_n, jx_pf_q, xe_return, cr_222, eb_222_0, jx_ns_r, jx_ns_n, jx_ns_q, jx_ns_i, jx_gl_0, jx_gl_s, if_true, if_false, ite_true, ite_false, eq_self, Bool.false_eq_true, List.length_cons, List.length_nil, Nat.zero_le, Nat.reduceAdd, Nat.reduceSub, Nat.reduceLeDiff, Nat.reduceLT, Nat.reduceEqDiff, Int.reduceToNat, reduceIte, xe_aload, jx_rv_r, jx_rv_n, jx_rv_q, xe_obj, and_self, and_true, true_and, xe_return, e, h3, List.set_cons_zero]
theorem Pair_init (h3 : 3 ≤ r) (h1 : 3 ≤ r1) (h2 : 3 ≤ r2) (e : H.1 r = .inr (10, jx_nf 10)) : jx_cr (d + 2) 188 [.ref r, .ref r1, .int v, .ref r2] H = some (.inl none, jx_put H r (.inr (10, [.ref r1, .ref r2, .int v]))) := by
  rw [nf_1.2.2.1] at e
  simp only [cr_188 jx_ns_r jx_ns_r, eb_188_0, jx_ns_r, jx_ns_n, jx_ns_q, jx_ns_i, jx_gl_0, jx_gl_s, if_true, if_false, ite_true, ite_false, eq_self, Bool.false_eq_true, List.length_cons, List.length_nil, Nat.zero_le, Nat.reduceAdd, Nat.reduceSub, Nat.reduceLeDiff, Nat.reduceLT, Nat.reduceEqDiff, Int.reduceToNat, reduceIte, xe_aload, jx_rv_r, jx_rv_n, jx_rv_q, xe_spc0, jx_cc_i, jx_cc_v, Nat.reduceMod, Nat.reduceDiv, xk_putf, ak_P, jx_pf_i, jx_pf_z, jx_pf_l, jx_pf_r, jx_pf_n, jx_pf_q, xk_iload, jx_iv_i, ak_I, xe_return, cr_222, eb_222_0, jx_ns_r, jx_ns_n, jx_ns_q, jx_ns_i, jx_gl_0, jx_gl_s, if_true, if_false, ite_true, ite_false, eq_self, Bool.false_eq_true, List.length_cons, List.length_nil, Nat.zero_le, Nat.reduceAdd, Nat.reduceSub, Nat.reduceLeDiff, Nat.reduceLT, Nat.reduceEqDiff, Int.reduceToNat, reduceIte, xe_aload, jx_rv_r, jx_rv_n, jx_rv_q, xe_obj, and_self, and_true, true_and, xe_return, e, h3, h1, h2, jx_put_at, jx_pp, List.set_cons_zero, List.set_cons_succ]
theorem Not_init (h3 : 3 ≤ r) (h1 : 3 ≤ r1) (e : H.1 r = .inr (12, jx_nf 12)) : jx_cr (d + 2) 184 [.ref r, .ref r1] H = some (.inl none, jx_put H r (.inr (12, [.ref r1]))) := by
  rw [nf_1.2.2.2.1] at e
  simp only [cr_184 jx_ns_r, eb_184_0, jx_ns_r, jx_ns_n, jx_ns_q, jx_ns_i, jx_gl_0, jx_gl_s, if_true, if_false, ite_true, ite_false, eq_self, Bool.false_eq_true, List.length_cons, List.length_nil, Nat.zero_le, Nat.reduceAdd, Nat.reduceSub, Nat.reduceLeDiff, Nat.reduceLT, Nat.reduceEqDiff, Int.reduceToNat, reduceIte, xe_aload, jx_rv_r, jx_rv_n, jx_rv_q, xe_spc0, jx_cc_i, jx_cc_v, Nat.reduceMod, Nat.reduceDiv, xk_putf, ak_P, jx_pf_i, jx_pf_z, jx_pf_l, jx_pf_r, jx_pf_n, jx_pf_q, xe_return, cr_192, eb_192_0, jx_ns_r, jx_ns_n, jx_ns_q, jx_ns_i, jx_gl_0, jx_gl_s, if_true, if_false, ite_true, ite_false, eq_self, Bool.false_eq_true, List.length_cons, List.length_nil, Nat.zero_le, Nat.reduceAdd, Nat.reduceSub, Nat.reduceLeDiff, Nat.reduceLT, Nat.reduceEqDiff, Int.reduceToNat, reduceIte, xe_aload, jx_rv_r, jx_rv_n, jx_rv_q, xe_obj, and_self, and_true, true_and, xe_return, e, h3, h1, jx_put_at, jx_pp, List.set_cons_zero, List.set_cons_succ]
theorem Compare_init (h3 : 3 ≤ r) (h1 : 3 ≤ r1) (h2 : 3 ≤ r2) (e : H.1 r = .inr (13, jx_nf 13)) : jx_cr (d + 2) 164 [.ref r, .ref r1, .int v, .ref r2] H = some (.inl none, jx_put H r (.inr (13, [.ref r1, .ref r2, .int v]))) := by
  rw [nf_1.2.2.2.2.1] at e
  simp only [cr_164 jx_ns_r jx_ns_r, eb_164_0, jx_ns_r, jx_ns_n, jx_ns_q, jx_ns_i, jx_gl_0, jx_gl_s, if_true, if_false, ite_true, ite_false, eq_self, Bool.false_eq_true, List.length_cons, List.length_nil, Nat.zero_le, Nat.reduceAdd, Nat.reduceSub, Nat.reduceLeDiff, Nat.reduceLT, Nat.reduceEqDiff, Int.reduceToNat, reduceIte, xe_aload, jx_rv_r, jx_rv_n, jx_rv_q, xe_spc0, jx_cc_i, jx_cc_v, Nat.reduceMod, Nat.reduceDiv, xk_putf, ak_P, jx_pf_i, jx_pf_z, jx_pf_l, jx_pf_r, jx_pf_n, jx_pf_q, xk_iload, jx_iv_i, ak_I, xe_return, cr_192, eb_192_0, jx_ns_r, jx_ns_n, jx_ns_q, jx_ns_i, jx_gl_0, jx_gl_s, if_true, if_false, ite_true, ite_false, eq_self, Bool.false_eq_true, List.length_cons, List.length_nil, Nat.zero_le, Nat.reduceAdd, Nat.reduceSub, Nat.reduceLeDiff, Nat.reduceLT, Nat.reduceEqDiff, Int.reduceToNat, reduceIte, xe_aload, jx_rv_r, jx_rv_n, jx_rv_q, xe_obj, and_self, and_true, true_and, xe_return, e, h3, h1, h2, jx_put_at, jx_pp, List.set_cons_zero, List.set_cons_succ]
theorem Both_init (h3 : 3 ≤ r) (h1 : 3 ≤ r1) (h2 : 3 ≤ r2) (e : H.1 r = .inr (14, jx_nf 14)) (hv : v &&& 1 = v) : jx_cr (d + 2) 160 [.ref r, .ref r1, .int v, .ref r2] H = some (.inl none, jx_put H r (.inr (14, [.ref r1, .ref r2, .int v]))) := by
  rw [nf_1.2.2.2.2.2.1] at e
  simp only [cr_160 jx_ns_r jx_ns_r, eb_160_0, jx_ns_r, jx_ns_n, jx_ns_q, jx_ns_i, jx_gl_0, jx_gl_s, if_true, if_false, ite_true, ite_false, eq_self, Bool.false_eq_true, List.length_cons, List.length_nil, Nat.zero_le, Nat.reduceAdd, Nat.reduceSub, Nat.reduceLeDiff, Nat.reduceLT, Nat.reduceEqDiff, Int.reduceToNat, reduceIte, xe_aload, jx_rv_r, jx_rv_n, jx_rv_q, xe_spc0, jx_cc_i, jx_cc_v, Nat.reduceMod, Nat.reduceDiv, xk_putf, ak_P, jx_pf_i, jx_pf_z, jx_pf_l, jx_pf_r, jx_pf_n, jx_pf_q, xk_iload, jx_iv_i, ak_I, xe_return, cr_192, eb_192_0, jx_ns_r, jx_ns_n, jx_ns_q, jx_ns_i, jx_gl_0, jx_gl_s, if_true, if_false, ite_true, ite_false, eq_self, Bool.false_eq_true, List.length_cons, List.length_nil, Nat.zero_le, Nat.reduceAdd, Nat.reduceSub, Nat.reduceLeDiff, Nat.reduceLT, Nat.reduceEqDiff, Int.reduceToNat, reduceIte, xe_aload, jx_rv_r, jx_rv_n, jx_rv_q, xe_obj, and_self, and_true, true_and, xe_return, e, h3, h1, h2, hv, jx_put_at, jx_pp, List.set_cons_zero, List.set_cons_succ]
theorem Clause_init (h3 : 3 ≤ r) : jx_cr (d + 1) 162 [.ref r] H = some (.inl none, H) := by
  simp only [cr_162, eb_162_0, jx_ns_r, jx_ns_n, jx_ns_q, jx_ns_i, jx_gl_0, jx_gl_s, if_true, if_false, ite_true, ite_false, eq_self, Bool.false_eq_true, List.length_cons, List.length_nil, Nat.zero_le, Nat.reduceAdd, Nat.reduceSub, Nat.reduceLeDiff, Nat.reduceLT, Nat.reduceEqDiff, Int.reduceToNat, reduceIte, xe_aload, jx_rv_r, jx_rv_n, jx_rv_q, xe_obj, and_self, and_true, true_and, xe_return, h3]
end CTO
def nmw (k : Nat) : Nat := if k = 0 then 2 else 6 + k
abbrev Vr := (Nat × Nat) ⊕ (((Nat → Int64) → Int64) × Nat × Nat)
/-- a value read at n: fault, or its answer, where it ends, how many are made -/
noncomputable def vl (tp : Nat → Int32) (M n g : Nat) : Vr :=
  if 0 < dgp tp M (skp tp M n) then
    match nmr tp M (skp tp M n) 0 99999 with
    | .inl f => .inl f
    | .inr (w, m) => if g < 60 then .inr (fun _ => w.toInt64, m, g + 1) else .inl (3, skp tp M n)
  else match fd (fun k => wmb tp M (skp tp M n) (nmw k)) 12 0 with
    | none => .inl (0, skp tp M n)
    | some k => if g < 60 then .inr (fun w => w k, skp tp M n + st_n (nmw k), g + 1) else .inl (3, skp tp M n)
theorem nmw_b {k : Nat} (h : k < 12) : nmw k < 22 ∧ sw_nw k = some (4 + nmw k) := by
  have : ∀ k : Fin 12, nmw k.val < 22 ∧ sw_nw k.val = some (4 + nmw k.val) := by decide +kernel
  exact this ⟨k, h⟩
theorem fd_some {P : Nat → Bool} : ∀ m i k, fd P m i = some k → i ≤ k ∧ k < i + m ∧ P k = true := by
  intro m
  induction m with
  | zero => intro i k h; cases h
  | succ m ih =>
    intro i k h
    rw [fd] at h
    by_cases r : P i = true
    · rw [if_pos r] at h; cases h; exact ⟨Nat.le_refl _, by omega, r⟩
    · rw [if_neg r] at h
      have := ih (i + 1) k h
      exact ⟨by omega, by omega, this.2.2⟩
theorem nmr_f {tp : Nat → Int32} {M n : Nat} {l v : Int32} {k pl : Nat} (hn : n ≤ M) (e : nmr tp M n l v = .inl (k, pl)) : k ≤ 4 ∧ pl ≤ M := by
  have le := skp_le (tp := tp) hn
  rw [nmr] at e
  split at e
  · cases e; exact ⟨by omega, le⟩
  · split at e
    · cases e
    · cases e; exact ⟨by omega, le⟩
section SDG
variable {d : Nat} {h : jx_H} {cu : Option Nat} {F : Nat → Int32} {o p q z : cq_C} {T : List Value} {x : Int32 × Int32} {ru im : Nat → Option Nat} {tp : Nat → Int32} {R : Nat → Nat → Int32} {s : Nat → Int32} {a : Nat → Nat → Int32} {w : Nat → Int64}
variable {t M e : Nat} {u' : Int32}
theorem T_value (hT : T.length = 6) (ht : 151 ≤ t) (eM : F 9 = nI M) (hM : M ≤ 400) : (∀ d h n g x, t < h.2.1 → ss_ok h → n ≤ M → g ≤ 60 → (∀ k pl, vl tp M n g = .inl (k, pl) → (k ≤ 4 ∧ pl ≤ M) ∧ ∃ h1 n2 e2 g2, ex h h1 (M - n) ∧ jx_cr (d + 8) 221 [.ref t] (sw (tx h t (nI n) (nI e) (nI g) u') cu F o p q z T x ru im tp R) = some (.inr (), sw (tx h1 t n2 e2 g2 u') cu F o p q z T (nI k, nI pl) ru im tp R)) ∧ (∀ L m g2, vl tp M n g = .inr (L, m, g2) → (n < m ∧ m ≤ M ∧ g ≤ g2 ∧ g2 ≤ 60) ∧ ∃ h1 r, ex h h1 (m - n) ∧ dv h1 h.2.1 h1.2.1 r L ∧ jx_cr (d + 8) 221 [.ref t] (sw (tx h t (nI n) (nI e) (nI g) u') cu F o p q z T x ru im tp R) = some (.inl (some (.ref r)), sw (tx h1 t (nI m) (nI e) (nI g2) u') cu F o p q z T x ru im tp R))) := by
  intro d h n g x hth hs hn hg
  have t3 : 3 ≤ t := by omega
  have s1 := fun d => T_see (d := d) (h := h) (x := x) (cu := cu) (F := F) (o := o) (p := p) (q := q) (z := z) (T := T) (ru := ru) (im := im) (tp := tp) (R := R) (u' := u') (e' := nI e) (g' := nI g) ht eM hM hn
  have le := skp_le (tp := tp) hn
  have ge := skp_ge tp M n
  have ii := skp_i (tp := tp) hn
  rw [vl]
  generalize skp tp M n = m at le ge ii s1 ⊢
  have dg := fun d => T_isDigit (d := d) (h := h) (x := x) (cu := cu) (F := F) (o := o) (p := p) (q := q) (z := z) (T := T) (ru := ru) (im := im) (tp := tp) (R := R) (u' := u') (n' := nI m) (e' := nI e) (g' := nI g) ht eM hM le
  have s2 := fun d => T_oneOf (d := d) (h := h) (x := x) (cu := cu) (F := F) (o := o) (p := p) (q := q) (z := z) (T := T) (ru := ru) (im := im) (tp := tp) (R := R) (u' := u') (n := m) (e' := nI e) (g' := nI g) (nw := 12) (a := 105) (f := nmw) (ar := sw_nw) hs (fun k hk => (nmw_b hk).1) (by omega) (by omega) (fun n' => sw_r.2.2.2.2.2.1) (fun k hk => (nmw_b hk).2) ht eM hM le
  rw [ii] at s2
  have mk1 := fun (d n : Nat) (v : Int32) (hg : g < 60) => T_makes1 (d := d) (h := h) (x := x) (cu := cu) (F := F) (o := o) (p := p) (q := q) (z := z) (T := T) (ru := ru) (im := im) (tp := tp) (R := R) (u' := u') (v := v) (n' := nI n) (e' := nI e) ht hg
  have mk0 := fun (d n : Nat) (v : Int32) => T_makes0 (d := d) (h := h) (x := x) (cu := cu) (F := F) (o := o) (p := p) (q := q) (z := z) (T := T) (ru := ru) (im := im) (tp := tp) (R := R) (u' := u') (v := v) (n' := nI n) (e' := nI e) hT ht
  have sz := fun (n : Int32) (g : Nat) => txw_sz (h := h) (x := x) (cu := cu) (F := F) (o := o) (p := p) (q := q) (z := z) (T := T) (ru := ru) (im := im) (tp := tp) (R := R) (u' := u') (t := t) (n' := n) (e' := nI e) (g' := nI g)
  by_cases r0 : 0 < dgp tp M m
  · rw [if_pos r0] at dg ⊢
    have nu := fun d => T_number (d := d) (h := h) (x := x) (cu := cu) (F := F) (o := o) (p := p) (q := q) (z := z) (T := T) (ru := ru) (im := im) (tp := tp) (R := R) (u' := u') (n := m) (e' := nI e) (g' := nI g) (l := 0) (v := 99999) hT ht eM hM le
    cases hN : nmr tp M m 0 99999 with
    | inl f =>
      refine ⟨fun k pl hk => ?_, fun L m2 g2 hk => (by cases hk)⟩
      cases hk
      refine ⟨nmr_f le hN, h, ?_⟩
      obtain ⟨n2, e2⟩ := (nu (d + 5)).1 k pl hN
      refine ⟨n2, nI e, nI g, ex_le ex_refl (by omega), ?_⟩
      simp only [cr_221, eb_221_0, jx_ns_r, jx_ns_n, jx_ns_q, jx_ns_i, jx_gl_0, jx_gl_s, if_true, if_false, ite_true, ite_false, eq_self, Bool.false_eq_true, List.length_cons, List.length_nil, Nat.zero_le, Nat.reduceAdd, Nat.reduceSub, Nat.reduceLeDiff, Nat.reduceLT, Nat.reduceEqDiff, Int.reduceToNat, reduceIte, xe_aload, jx_rv_r, jx_rv_n, jx_rv_q, xe_inv0, jx_cc_i, jx_cc_v, Nat.reduceMod, Nat.reduceDiv, jx_cl9_i, xe_pop, jx_2_i, jx_2_l, jx_2_r, jx_2_n, jx_2_q, or_self, xk_getf, jx_gf_i, jx_ov_s, ak_V, xe_istore, xk_iload, jx_iv_i, ak_I, xe_inv1, xe_ifeq, xe_iconst, xi_0, xx_0, xi_99999, xe_inv2, xe_new, xe_dup, xe_i2l, xe_spc1, xe_areturn_n, xe_areturn_r, xi_m1, xe_icmp_eq, xi_1, xx_1, xe_goto, xe_goto_w, xe_inv3, xk_qald, ja_qa, ak_A, ak_Q, true_or, or_true, and_self, and_true, true_and, xe_iadd, xk_putf, ak_P, jx_pf_i, jx_pf_z, jx_pf_l, jx_pf_r, jx_pf_n, jx_pf_q, jx_s1, List.set_cons_zero, List.set_cons_succ, jx_2_u, jx_2_s, jx_k_i, jx_k_l, jx_k_r, jx_k_n, jx_k_u, jx_k_s, jx_k_q, tx_r ht, sw_r, sw_f, tx_f, tx_s, s1, dg, sp_10, e2, jx_cc_x xh_221]
    | inr wn =>
      obtain ⟨wv, m2⟩ := wn
      have nu2 := fun d => (nu d).2 wv m2 hN
      have m2le := (nu2 0).1
      have m2gt := (nu2 0).2.1
      have nu3 := fun d => (nu2 d).2.2
      by_cases hg6 : g < 60
      · simp only [if_pos hg6]
        refine ⟨fun k pl hk => (by cases hk), fun L m3 g2 hk => ?_⟩
        cases hk
        have mk := fun d n v => mk1 d n v hg6
        have exn : ex h (jx_new h (.inr (8, jx_nf 8)) (jx_nf 8).length) 1 := ex_new ex_refl rfl (by rw [nf_1.1]; show 1 ≤ 16; omega) (Nat.le_refl _)
        have ni := Number_init (d := d + 5) (r := h.2.1) (n := wv.toInt64) (H := jx_new (sw (tx h t (nI m2) (nI e) (nI (g + 1)) u') cu F o p q z T x ru im tp R) (.inr (8, jx_nf 8)) (jx_nf 8).length) (by omega) (by rw [jx_new_at]; exact if_pos rfl)
        have hr3 : 3 ≤ h.2.1 := by omega
        rw [txw_new hth (by omega), txw_put (by omega) (by omega)] at ni
        refine ⟨⟨by omega, m2le, by omega, by omega⟩, _, h.2.1, ex_le (ex_put exn rfl (Nat.le_refl _)) (by omega), dv_num (n := wv.toInt64) hr3 (by rw [jx_put_at, if_pos rfl]), ?_⟩
        simp only [cr_221, eb_221_0, jx_ns_r, jx_ns_n, jx_ns_q, jx_ns_i, jx_gl_0, jx_gl_s, if_true, if_false, ite_true, ite_false, eq_self, Bool.false_eq_true, List.length_cons, List.length_nil, Nat.zero_le, Nat.reduceAdd, Nat.reduceSub, Nat.reduceLeDiff, Nat.reduceLT, Nat.reduceEqDiff, Int.reduceToNat, reduceIte, xe_aload, jx_rv_r, jx_rv_n, jx_rv_q, xe_inv0, jx_cc_i, jx_cc_v, Nat.reduceMod, Nat.reduceDiv, jx_cl9_i, xe_pop, jx_2_i, jx_2_l, jx_2_r, jx_2_n, jx_2_q, or_self, xk_getf, jx_gf_i, jx_ov_s, ak_V, xe_istore, xk_iload, jx_iv_i, ak_I, xe_inv1, xe_ifeq, xe_iconst, xi_0, xx_0, xi_99999, xe_inv2, xe_new, xe_dup, xe_i2l, xe_spc1, xe_areturn_n, xe_areturn_r, xi_m1, xe_icmp_eq, xi_1, xx_1, xe_goto, xe_goto_w, xe_inv3, xk_qald, ja_qa, ak_A, ak_Q, true_or, or_true, and_self, and_true, true_and, xe_iadd, xk_putf, ak_P, jx_pf_i, jx_pf_z, jx_pf_l, jx_pf_r, jx_pf_n, jx_pf_q, jx_s1, List.set_cons_zero, List.set_cons_succ, jx_2_u, jx_2_s, jx_k_i, jx_k_l, jx_k_r, jx_k_n, jx_k_u, jx_k_s, jx_k_q, tx_r ht, sw_r, sw_f, tx_f, tx_s, s1, dg, sp_10, nu3, mk, hr3, sz, txw_new hth (show 113 ≤ h.2.1 by omega), ni]
      · have g6 : g = 60 := by omega
        subst g6
        simp only [if_neg hg6]
        refine ⟨fun k pl hk => ?_, fun L m2 g2 hk => (by cases hk)⟩
        cases hk
        refine ⟨⟨by omega, le⟩, h, nI m2, nI e, nI 60, ex_le ex_refl (by omega), ?_⟩
        have k3 : nI 3 = 3 := rfl
        simp only [cr_221, eb_221_0, jx_ns_r, jx_ns_n, jx_ns_q, jx_ns_i, jx_gl_0, jx_gl_s, if_true, if_false, ite_true, ite_false, eq_self, Bool.false_eq_true, List.length_cons, List.length_nil, Nat.zero_le, Nat.reduceAdd, Nat.reduceSub, Nat.reduceLeDiff, Nat.reduceLT, Nat.reduceEqDiff, Int.reduceToNat, reduceIte, xe_aload, jx_rv_r, jx_rv_n, jx_rv_q, xe_inv0, jx_cc_i, jx_cc_v, Nat.reduceMod, Nat.reduceDiv, jx_cl9_i, xe_pop, jx_2_i, jx_2_l, jx_2_r, jx_2_n, jx_2_q, or_self, xk_getf, jx_gf_i, jx_ov_s, ak_V, xe_istore, xk_iload, jx_iv_i, ak_I, xe_inv1, xe_ifeq, xe_iconst, xi_0, xx_0, xi_99999, xe_inv2, xe_new, xe_dup, xe_i2l, xe_spc1, xe_areturn_n, xe_areturn_r, xi_m1, xe_icmp_eq, xi_1, xx_1, xe_goto, xe_goto_w, xe_inv3, xk_qald, ja_qa, ak_A, ak_Q, true_or, or_true, and_self, and_true, true_and, xe_iadd, xk_putf, ak_P, jx_pf_i, jx_pf_z, jx_pf_l, jx_pf_r, jx_pf_n, jx_pf_q, jx_s1, List.set_cons_zero, List.set_cons_succ, jx_2_u, jx_2_s, jx_k_i, jx_k_l, jx_k_r, jx_k_n, jx_k_u, jx_k_s, jx_k_q, tx_r ht, sw_r, sw_f, tx_f, tx_s, s1, dg, sp_10, nu3, mk0, k3, jx_cc_x xh_221]
  · rw [if_neg r0] at dg ⊢
    have d0 := fun (d : Nat) (n : Int32) => T_demand0 (d := d) (h := h) (x := x) (cu := cu) (F := F) (o := o) (p := p) (q := q) (z := z) (T := T) (ru := ru) (im := im) (tp := tp) (R := R) (u' := u') (v := 0) (l := nI m) (n' := n) (e' := nI e) (g' := nI g) hT ht
    have k0 : nI 0 = 0 := rfl
    have k3 : nI 3 = 3 := rfl
    cases hN : fd (fun k => wmb tp M m (nmw k)) 12 0 with
    | none =>
      refine ⟨fun k pl hk => ?_, fun L m2 g2 hk => (by cases hk)⟩
      cases hk
      simp only [hN] at s2
      refine ⟨⟨by omega, le⟩, h, nI m, nI e, nI g, ex_le ex_refl (by omega), ?_⟩
      simp only [cr_221, eb_221_0, eb_221_41, eb_221_60, eb_221_61, jx_ns_r, jx_ns_n, jx_ns_q, jx_ns_i, jx_gl_0, jx_gl_s, if_true, if_false, ite_true, ite_false, eq_self, Bool.false_eq_true, List.length_cons, List.length_nil, Nat.zero_le, Nat.reduceAdd, Nat.reduceSub, Nat.reduceLeDiff, Nat.reduceLT, Nat.reduceEqDiff, Int.reduceToNat, reduceIte, xe_aload, jx_rv_r, jx_rv_n, jx_rv_q, xe_inv0, jx_cc_i, jx_cc_v, Nat.reduceMod, Nat.reduceDiv, jx_cl9_i, xe_pop, jx_2_i, jx_2_l, jx_2_r, jx_2_n, jx_2_q, or_self, xk_getf, jx_gf_i, jx_ov_s, ak_V, xe_istore, xk_iload, jx_iv_i, ak_I, xe_inv1, xe_ifeq, xe_iconst, xi_0, xx_0, xi_99999, xe_inv2, xe_new, xe_dup, xe_i2l, xe_spc1, xe_areturn_n, xe_areturn_r, xi_m1, xe_icmp_eq, xi_1, xx_1, xe_goto, xe_goto_w, xe_inv3, xk_qald, ja_qa, ak_A, ak_Q, true_or, or_true, and_self, and_true, true_and, xe_iadd, xk_putf, ak_P, jx_pf_i, jx_pf_z, jx_pf_l, jx_pf_r, jx_pf_n, jx_pf_q, jx_s1, List.set_cons_zero, List.set_cons_succ, jx_2_u, jx_2_s, jx_k_i, jx_k_l, jx_k_r, jx_k_n, jx_k_u, jx_k_s, jx_k_q, tx_r ht, sw_r, sw_f, tx_f, tx_s, s1, dg, s2, d0, k0, jx_cc_x xh_221]
    | some kw =>
      have fk := fd_some _ _ _ hN
      have kb : kw < 12 := by omega
      have nb := nmw_b kb
      have sn := st_nb nb.1
      have wmk : wm tp M m (nmw kw) := by
        have := fk.2.2
        rw [wmb] at this
        exact (@decide_eq_true_iff _ (Classical.propDecidable _)).mp this
      have wl := wm_le le wmk
      simp only [hN] at s2
      have nz : ¬ nI kw = -1 := fun q => by
        have := congrArg Int32.toInt q
        rw [nI_toInt (by omega)] at this
        exact absurd this (by show ¬ (kw : Int) = -1; omega)
      by_cases hg6 : g < 60
      · simp only [if_pos hg6]
        refine ⟨fun k pl hk => (by cases hk), fun L m3 g2 hk => ?_⟩
        cases hk
        have mk := fun d n v => mk1 d n v hg6
        have exn : ex h (jx_new h (.inr (9, jx_nf 9)) (jx_nf 9).length) 1 := ex_new ex_refl rfl (by rw [nf_1.2.1]; show 1 ≤ 16; omega) (Nat.le_refl _)
        have ni := Word_init (d := d + 5) (r := h.2.1) (v := nI kw) (H := jx_new (sw (tx h t (nI (m + st_n (nmw kw))) (nI e) (nI (g + 1)) u') cu F o p q z T x ru im tp R) (.inr (9, jx_nf 9)) (jx_nf 9).length) (by omega) (by rw [jx_new_at]; exact if_pos rfl)
        have hr3 : 3 ≤ h.2.1 := by omega
        have i1 := sp_ix kb (show 12 < 2 ^ 31 by omega)
        have hH : ss_ok (sw (tx h t (nI m) (nI e) (nI (g + 1)) u') cu F o p q z T x ru im tp R) := ss_sw (ss_tx ht hs)
        have sl := fun d => String_length (d := d) hH nb.1
        obtain ⟨⟨fs, h19⟩, _⟩ := hH (nmw kw) nb.1
        rw [txw_new hth (by omega), txw_put (by omega) (by omega)] at ni
        refine ⟨⟨by omega, wl, by omega, by omega⟩, _, h.2.1, ex_le (ex_put exn rfl (Nat.le_refl _)) (by omega), dv_word (i := kw) hr3 kb (by rw [jx_put_at, if_pos rfl]), ?_⟩
        simp only [cr_221, eb_221_0, eb_221_41, eb_221_60, eb_221_61, jx_ns_r, jx_ns_n, jx_ns_q, jx_ns_i, jx_gl_0, jx_gl_s, if_true, if_false, ite_true, ite_false, eq_self, Bool.false_eq_true, List.length_cons, List.length_nil, Nat.zero_le, Nat.reduceAdd, Nat.reduceSub, Nat.reduceLeDiff, Nat.reduceLT, Nat.reduceEqDiff, Int.reduceToNat, reduceIte, xe_aload, jx_rv_r, jx_rv_n, jx_rv_q, xe_inv0, jx_cc_i, jx_cc_v, Nat.reduceMod, Nat.reduceDiv, jx_cl9_i, xe_pop, jx_2_i, jx_2_l, jx_2_r, jx_2_n, jx_2_q, or_self, xk_getf, jx_gf_i, jx_ov_s, ak_V, xe_istore, xk_iload, jx_iv_i, ak_I, xe_inv1, xe_ifeq, xe_iconst, xi_0, xx_0, xi_99999, xe_inv2, xe_new, xe_dup, xe_i2l, xe_spc1, xe_areturn_n, xe_areturn_r, xi_m1, xe_icmp_eq, xi_1, xx_1, xe_goto, xe_goto_w, xe_inv3, xk_qald, ja_qa, ak_A, ak_Q, true_or, or_true, and_self, and_true, true_and, xe_iadd, xk_putf, ak_P, jx_pf_i, jx_pf_z, jx_pf_l, jx_pf_r, jx_pf_n, jx_pf_q, jx_s1, List.set_cons_zero, List.set_cons_succ, jx_2_u, jx_2_s, jx_k_i, jx_k_l, jx_k_r, jx_k_n, jx_k_u, jx_k_s, jx_k_q, tx_r ht, tx_w ht, sw_r, sw_f, tx_f, tx_s, s1, dg, s2, nz, T_demand1 (l := 1) (by decide), mk, i1, nb.2, va_rf, h19, sl, hr3, sz, nI_add, txw_new hth (show 113 ≤ h.2.1 by omega), ni]
      · have g6 : g = 60 := by omega
        subst g6
        simp only [if_neg hg6]
        refine ⟨fun k pl hk => ?_, fun L m2 g2 hk => (by cases hk)⟩
        cases hk
        refine ⟨⟨by omega, le⟩, h, nI m, nI e, nI 60, ex_le ex_refl (by omega), ?_⟩
        simp only [cr_221, eb_221_0, eb_221_41, eb_221_60, eb_221_61, jx_ns_r, jx_ns_n, jx_ns_q, jx_ns_i, jx_gl_0, jx_gl_s, if_true, if_false, ite_true, ite_false, eq_self, Bool.false_eq_true, List.length_cons, List.length_nil, Nat.zero_le, Nat.reduceAdd, Nat.reduceSub, Nat.reduceLeDiff, Nat.reduceLT, Nat.reduceEqDiff, Int.reduceToNat, reduceIte, xe_aload, jx_rv_r, jx_rv_n, jx_rv_q, xe_inv0, jx_cc_i, jx_cc_v, Nat.reduceMod, Nat.reduceDiv, jx_cl9_i, xe_pop, jx_2_i, jx_2_l, jx_2_r, jx_2_n, jx_2_q, or_self, xk_getf, jx_gf_i, jx_ov_s, ak_V, xe_istore, xk_iload, jx_iv_i, ak_I, xe_inv1, xe_ifeq, xe_iconst, xi_0, xx_0, xi_99999, xe_inv2, xe_new, xe_dup, xe_i2l, xe_spc1, xe_areturn_n, xe_areturn_r, xi_m1, xe_icmp_eq, xi_1, xx_1, xe_goto, xe_goto_w, xe_inv3, xk_qald, ja_qa, ak_A, ak_Q, true_or, or_true, and_self, and_true, true_and, xe_iadd, xk_putf, ak_P, jx_pf_i, jx_pf_z, jx_pf_l, jx_pf_r, jx_pf_n, jx_pf_q, jx_s1, List.set_cons_zero, List.set_cons_succ, jx_2_u, jx_2_s, jx_k_i, jx_k_l, jx_k_r, jx_k_n, jx_k_u, jx_k_s, jx_k_q, tx_r ht, sw_r, sw_f, tx_f, tx_s, s1, dg, s2, nz, T_demand1 (l := 1) (by decide), mk0, k3, jx_cc_x xh_221]
end SDG
