/-! TEXTS: demand, oneOf, isDigit, number, makes, opens, ends -/
set_option maxRecDepth 100000
theorem ft_s {T : List Value} {a b v : Int32} (hT : T.length = 6) : (T ++ [Value.int a, Value.int b]).set 6 (Value.int v) = T ++ [Value.int v, Value.int b] ∧ (T ++ [Value.int a, Value.int b]).set 7 (Value.int v) = T ++ [Value.int a, Value.int v] := by
  match T, hT with
  | [a0, a1, a2, a3, a4, a5], _ => exact ⟨rfl, rfl⟩
theorem ft_f {T : List Value} {a b : Int32} (hT : T.length = 6) : (T ++ [Value.int a, Value.int b])[6]? = some (Value.int a) ∧ (T ++ [Value.int a, Value.int b])[7]? = some (Value.int b) := by
  match T, hT with
  | [a0, a1, a2, a3, a4, a5], _ => exact ⟨rfl, rfl⟩
/-- a number read: fault, or value and where it ends -/
def nmr (tp : Nat → Int32) (M n : Nat) (l v : Int32) : (Nat × Nat) ⊕ (Int32 × Nat) :=
  if dgp tp M (skp tp M n) = 0 then .inl (0, skp tp M n)
  else if dgp tp M (skp tp M n) ≤ 5 ∧ l ≤ nv tp (skp tp M n) (dgp tp M (skp tp M n)) ∧ nv tp (skp tp M n) (dgp tp M (skp tp M n)) ≤ v then .inr (nv tp (skp tp M n) (dgp tp M (skp tp M n)), skp tp M n + dgp tp M (skp tp M n))
  else .inl (1, skp tp M n)
section SDD
variable {d : Nat} {h : jx_H} {cu : Option Nat} {F : Nat → Int32} {o p q z : cq_C} {T : List Value} {x : Int32 × Int32} {ru im : Nat → Option Nat} {tp : Nat → Int32} {R : Nat → Nat → Int32} {s : Nat → Int32} {a : Nat → Nat → Int32} {w : Nat → Int64}
variable {t n e g u M i k c j : Nat} {n' e' g' u' v l : Int32}
theorem T_demand1 (hi : ¬ l = 0) : jx_cr (d + 1) 194 [.ref t, .int l, .int v, .int n'] (sw h cu F o p q z T x ru im tp R) = some (.inl none, (sw h cu F o p q z T x ru im tp R)) := by
  simp only [cr_194, eb_194_0, jx_ns_r, jx_ns_n, jx_ns_q, jx_ns_i, jx_gl_0, jx_gl_s, if_true, if_false, ite_true, ite_false, eq_self, Bool.false_eq_true, List.length_cons, List.length_nil, Nat.zero_le, Nat.reduceAdd, Nat.reduceSub, Nat.reduceLeDiff, Nat.reduceLT, Nat.reduceEqDiff, Int.reduceToNat, reduceIte, xk_iload, jx_iv_i, ak_I, xe_ifeq, xe_return, xe_aload, jx_rv_r, jx_rv_n, jx_rv_q, xk_getf, jx_gf_i, jx_ov_s, ak_V, xk_putf, ak_P, jx_pf_i, jx_pf_z, jx_pf_l, jx_pf_r, jx_pf_n, jx_pf_q, Nat.reduceMod, Nat.reduceDiv, hi]
theorem sw_wx2 {k l : Int32} : jx_put (sw h cu F o p q z T x ru im tp R) 101 (.inr (2, T ++ [.int k, .int l])) = sw h cu F o p q z T (k, l) ru im tp R := sw_wx (y := (k, l))
theorem T_demand0 (hT : T.length = 6) (ht : 151 ≤ t) : jx_cr (d + 1) 194 [.ref t, .int 0, .int v, .int l] (sw (tx h t n' e' g' u') cu F o p q z T x ru im tp R) = some (.inr (), sw (tx h t n' e' g' u') cu F o p q z T (v, l) ru im tp R) := by
  have rd : ∀ x : Int32 × Int32, (sw (tx h t n' e' g' u') cu F o p q z T x ru im tp R).1 101 = .inr (2, T ++ [.int x.1, .int x.2]) := fun x => rfl
  obtain ⟨x1, x2⟩ := x
  have ea := xe_athrow (d := d) (y := 194) (c := []) (ls := [.ref t, .int 0, .int v, .int l]) (st := []) (k := 101) (rd (v, l))
  simp only [cr_194, eb_194_0, eb_194_5, jx_ns_r, jx_ns_n, jx_ns_q, jx_ns_i, jx_gl_0, jx_gl_s, if_true, if_false, ite_true, ite_false, eq_self, Bool.false_eq_true, List.length_cons, List.length_nil, Nat.zero_le, Nat.reduceAdd, Nat.reduceSub, Nat.reduceLeDiff, Nat.reduceLT, Nat.reduceEqDiff, Int.reduceToNat, reduceIte, xk_iload, jx_iv_i, ak_I, xe_ifeq, xe_return, xe_aload, jx_rv_r, jx_rv_n, jx_rv_q, xk_getf, jx_gf_i, jx_ov_s, ak_V, xk_putf, ak_P, jx_pf_i, jx_pf_z, jx_pf_l, jx_pf_r, jx_pf_n, jx_pf_q, Nat.reduceMod, Nat.reduceDiv, tx_r ht, sw_r, sw_f, tx_f, tx_s, rd, (ft_s hT).1, (ft_s hT).2, sw_wx2, ea]
theorem T_isDigit (ht : 151 ≤ t) (eM : F 9 = nI M) (hM : M ≤ 400) (hk : k ≤ M) : jx_cr (d + 1) 201 [.ref t, .int (nI k)] (sw (tx h t n' e' g' u') cu F o p q z T x ru im tp R) = some (.inl (some (.int (if 0 < dgp tp M k then 1 else 0))), sw (tx h t n' e' g' u') cu F o p q z T x ru im tp R) := by
  by_cases r : k < M
  · have h3 : ¬ nI M ≤ nI k := nI_ge r (by omega)
    have i1 := sp_ix (show k < 400 by omega) (by decide)
    by_cases r1 : tp k < 48
    · have r2 : ¬ 0 < dgp tp M k := fun q => absurd r1 (Int32.not_lt.mpr (dgp_0.mp q).2.1)
      simp only [cr_201, eb_201_0, eb_201_43, eb_201_44, jx_ns_r, jx_ns_n, jx_ns_q, jx_ns_i, jx_gl_0, jx_gl_s, if_true, if_false, ite_true, ite_false, eq_self, Bool.false_eq_true, List.length_cons, List.length_nil, Nat.zero_le, Nat.reduceAdd, Nat.reduceSub, Nat.reduceLeDiff, Nat.reduceLT, Nat.reduceEqDiff, Int.reduceToNat, reduceIte, xk_iload, jx_iv_i, ak_I, xe_aload, jx_rv_r, jx_rv_n, jx_rv_q, xk_getf, jx_gf_i, jx_ov_s, ak_V, xe_icmp_ge, xk_bald, ja_ba, ak_A, true_or, or_true, xe_iconst, xi_48, xe_icmp_lt, xi_57, xe_icmp_gt, xi_1, xx_1, xe_goto, xi_0, xx_0, xe_goto_w, xe_zreturn, xZ, tx_r ht, sw_r, sw_f, tx_f, tx_s, eM, h3, i1, r1, r2]
    · by_cases r3 : 57 < tp k
      · have r2 : ¬ 0 < dgp tp M k := fun q => absurd r3 (Int32.not_lt.mpr (dgp_0.mp q).2.2)
        simp only [cr_201, eb_201_0, eb_201_43, eb_201_44, jx_ns_r, jx_ns_n, jx_ns_q, jx_ns_i, jx_gl_0, jx_gl_s, if_true, if_false, ite_true, ite_false, eq_self, Bool.false_eq_true, List.length_cons, List.length_nil, Nat.zero_le, Nat.reduceAdd, Nat.reduceSub, Nat.reduceLeDiff, Nat.reduceLT, Nat.reduceEqDiff, Int.reduceToNat, reduceIte, xk_iload, jx_iv_i, ak_I, xe_aload, jx_rv_r, jx_rv_n, jx_rv_q, xk_getf, jx_gf_i, jx_ov_s, ak_V, xe_icmp_ge, xk_bald, ja_ba, ak_A, true_or, or_true, xe_iconst, xi_48, xe_icmp_lt, xi_57, xe_icmp_gt, xi_1, xx_1, xe_goto, xi_0, xx_0, xe_goto_w, xe_zreturn, xZ, tx_r ht, sw_r, sw_f, tx_f, tx_s, eM, h3, i1, r1, r2, r3]
      · have r2 : 0 < dgp tp M k := dgp_0.mpr ⟨r, Int32.not_lt.mp r1, Int32.not_lt.mp r3⟩
        simp only [cr_201, eb_201_0, eb_201_43, eb_201_44, jx_ns_r, jx_ns_n, jx_ns_q, jx_ns_i, jx_gl_0, jx_gl_s, if_true, if_false, ite_true, ite_false, eq_self, Bool.false_eq_true, List.length_cons, List.length_nil, Nat.zero_le, Nat.reduceAdd, Nat.reduceSub, Nat.reduceLeDiff, Nat.reduceLT, Nat.reduceEqDiff, Int.reduceToNat, reduceIte, xk_iload, jx_iv_i, ak_I, xe_aload, jx_rv_r, jx_rv_n, jx_rv_q, xk_getf, jx_gf_i, jx_ov_s, ak_V, xe_icmp_ge, xk_bald, ja_ba, ak_A, true_or, or_true, xe_iconst, xi_48, xe_icmp_lt, xi_57, xe_icmp_gt, xi_1, xx_1, xe_goto, xi_0, xx_0, xe_goto_w, xe_zreturn, xZ, tx_r ht, sw_r, sw_f, tx_f, tx_s, eM, h3, i1, r1, r2, r3]
  · have h3 : nI M ≤ nI k := (nI_leI (by omega) (by omega)).mpr (by omega)
    have r2 : ¬ 0 < dgp tp M k := fun q => r (dgp_0.mp q).1
    simp only [cr_201, eb_201_0, eb_201_43, eb_201_44, jx_ns_r, jx_ns_n, jx_ns_q, jx_ns_i, jx_gl_0, jx_gl_s, if_true, if_false, ite_true, ite_false, eq_self, Bool.false_eq_true, List.length_cons, List.length_nil, Nat.zero_le, Nat.reduceAdd, Nat.reduceSub, Nat.reduceLeDiff, Nat.reduceLT, Nat.reduceEqDiff, Int.reduceToNat, reduceIte, xk_iload, jx_iv_i, ak_I, xe_aload, jx_rv_r, jx_rv_n, jx_rv_q, xk_getf, jx_gf_i, jx_ov_s, ak_V, xe_icmp_ge, xk_bald, ja_ba, ak_A, true_or, or_true, xe_iconst, xi_48, xe_icmp_lt, xi_57, xe_icmp_gt, xi_1, xx_1, xe_goto, xi_0, xx_0, xe_goto_w, xe_zreturn, xZ, tx_r ht, sw_r, sw_f, tx_f, tx_s, eM, h3, r2]
theorem T_number (hT : T.length = 6) (ht : 151 ≤ t) (eM : F 9 = nI M) (hM : M ≤ 400) (hn : n ≤ M) :
    (∀ k pl, nmr tp M n l v = .inl (k, pl) → ∃ n2, jx_cr (d + 2) 202 [.ref t, .int l, .int v] (sw (tx h t (nI n) e' g' u') cu F o p q z T x ru im tp R) = some (.inr (), sw (tx h t n2 e' g' u') cu F o p q z T (nI k, nI pl) ru im tp R)) ∧
    (∀ w m, nmr tp M n l v = .inr (w, m) → m ≤ M ∧ n < m ∧ jx_cr (d + 2) 202 [.ref t, .int l, .int v] (sw (tx h t (nI n) e' g' u') cu F o p q z T x ru im tp R) = some (.inl (some (.int w)), sw (tx h t (nI m) e' g' u') cu F o p q z T x ru im tp R)) := by
  have s1 := fun d => T_see (d := d) (h := h) (cu := cu) (F := F) (o := o) (p := p) (q := q) (z := z) (T := T) (x := x) (ru := ru) (im := im) (tp := tp) (R := R) (e' := e') (g' := g') (u' := u') ht eM hM hn
  have le := skp_le (tp := tp) hn
  have ge := skp_ge tp M n
  rw [nmr]
  generalize skp tp M n = m at le ge s1 ⊢
  have dg := fun (d k : Nat) (n' : Int32) (hk : k ≤ M) => T_isDigit (d := d) (h := h) (cu := cu) (F := F) (o := o) (p := p) (q := q) (z := z) (T := T) (x := x) (ru := ru) (im := im) (tp := tp) (R := R) (n' := n') (e' := e') (g' := g') (u' := u') ht eM hM hk
  by_cases r0 : dgp tp M m = 0
  · rw [if_pos r0]
    refine ⟨fun k pl hk => ?_, fun w m hw => by cases hw⟩
    cases hk
    have r1 : ¬ 0 < dgp tp M m := by omega
    have dm := fun d => dg d m (nI m) le
    rw [if_neg r1] at dm
    have de := fun (d : Nat) => T_demand0 (d := d) (h := h) (cu := cu) (F := F) (o := o) (p := p) (q := q) (z := z) (x := x) (ru := ru) (im := im) (tp := tp) (R := R) (n' := nI m) (e' := e') (g' := g') (u' := u') (v := 0) (l := nI m) hT ht
    refine ⟨nI m, ?_⟩
    simp only [cr_202, eb_202_0, jx_ns_r, jx_ns_n, jx_ns_q, jx_ns_i, jx_gl_0, jx_gl_s, if_true, if_false, ite_true, ite_false, eq_self, Bool.false_eq_true, List.length_cons, List.length_nil, Nat.zero_le, Nat.reduceAdd, Nat.reduceSub, Nat.reduceLeDiff, Nat.reduceLT, Nat.reduceEqDiff, Int.reduceToNat, reduceIte, xe_aload, jx_rv_r, jx_rv_n, jx_rv_q, xe_inv0, jx_cc_i, jx_cc_v, Nat.reduceMod, Nat.reduceDiv, jx_cl9_i, xe_pop, jx_2_i, jx_2_l, jx_2_r, jx_2_n, jx_2_q, or_self, xk_getf, jx_gf_i, jx_ov_s, ak_V, xe_istore, xk_iload, jx_iv_i, ak_I, xe_inv1, xe_iconst, xi_0, xx_0, xe_inv3, xe_goto_w, xe_ifeq, xe_isub, xi_5, xx_5, xe_icmp_ge, xi_10, xx_10, xe_imul, xk_bald, ja_ba, ak_A, true_or, or_true, xe_iadd, xi_48, xe_dup, xi_1, xx_1, xk_putf, ak_P, jx_pf_i, jx_pf_z, jx_pf_l, jx_pf_r, jx_pf_n, jx_pf_q, xe_goto, xe_icmp_gt, xe_i2l, xe_sta3, xe_ireturn, jx_s1, List.set_cons_zero, List.set_cons_succ, jx_2_u, jx_2_s, jx_k_i, jx_k_l, jx_k_r, jx_k_n, jx_k_u, jx_k_s, jx_k_q, tx_r ht, sw_r, sw_f, tx_f, tx_s, s1, dm, de, jx_cc_x xh_202, nI_0]
  · rw [if_neg r0]
    have dm := fun d => dg d m (nI m) le
    rw [if_pos (by omega)] at dm
    have d1 := fun (d : Nat) (H : jx_H) => T_demand1 (d := d) (h := tx h t (nI m) e' g' u') (cu := cu) (F := F) (o := o) (p := p) (q := q) (z := z) (T := T) (x := x) (ru := ru) (im := im) (tp := tp) (R := R) (t := t) (l := 1) (v := 0) (n' := nI m) (by decide)
    have dl := dgp_le (tp := tp) le
    have lp := jx_lp (d := d + 1) (y := 202) (L := 24) (n := dgp tp M m) (γ := Unit) (ls := fun k _ => [.ref t, .int l, .int v, .int (nI m), .int (nv tp m k)]) (H := fun k _ => sw (tx h t (nI (m + k)) e' g' u') cu F o p q z T x ru im tp R)
      (I := fun _ _ => True)
      (G := fun r => r = jx_eb (d + 1) 202 81 [.ref t, .int l, .int v, .int (nI m), .int (nv tp m (dgp tp M m))] [] (sw (tx h t (nI (m + dgp tp M m)) e' g' u') cu F o p q z T x ru im tp R)) ?_ ?_ (dgp tp M m) 0 () (by omega) trivial
    · simp only [Nat.add_zero, nv] at lp
      have st : jx_cr (d + 2) 202 [.ref t, .int l, .int v] (sw (tx h t (nI n) e' g' u') cu F o p q z T x ru im tp R) = jx_eb (d + 1) 202 81 [.ref t, .int l, .int v, .int (nI m), .int (nv tp m (dgp tp M m))] [] (sw (tx h t (nI (m + dgp tp M m)) e' g' u') cu F o p q z T x ru im tp R) := by
        rw [← lp]
        simp only [cr_202, eb_202_0, jx_ns_r, jx_ns_n, jx_ns_q, jx_ns_i, jx_gl_0, jx_gl_s, if_true, if_false, ite_true, ite_false, eq_self, Bool.false_eq_true, List.length_cons, List.length_nil, Nat.zero_le, Nat.reduceAdd, Nat.reduceSub, Nat.reduceLeDiff, Nat.reduceLT, Nat.reduceEqDiff, Int.reduceToNat, reduceIte, xe_aload, jx_rv_r, jx_rv_n, jx_rv_q, xe_inv0, jx_cc_i, jx_cc_v, Nat.reduceMod, Nat.reduceDiv, jx_cl9_i, xe_pop, jx_2_i, jx_2_l, jx_2_r, jx_2_n, jx_2_q, or_self, xk_getf, jx_gf_i, jx_ov_s, ak_V, xe_istore, xk_iload, jx_iv_i, ak_I, xe_inv1, xe_iconst, xi_0, xx_0, xe_inv3, xe_goto_w, xe_ifeq, xe_isub, xi_5, xx_5, xe_icmp_ge, xi_10, xx_10, xe_imul, xk_bald, ja_ba, ak_A, true_or, or_true, xe_iadd, xi_48, xe_dup, xi_1, xx_1, xk_putf, ak_P, jx_pf_i, jx_pf_z, jx_pf_l, jx_pf_r, jx_pf_n, jx_pf_q, xe_goto, xe_icmp_gt, xe_i2l, xe_sta3, xe_ireturn, jx_s1, List.set_cons_zero, List.set_cons_succ, jx_2_u, jx_2_s, jx_k_i, jx_k_l, jx_k_r, jx_k_n, jx_k_u, jx_k_s, jx_k_q, tx_r ht, sw_r, sw_f, tx_f, tx_s, s1, dm, T_demand1 (l := 1) (by decide)]
      generalize hV : nv tp m (dgp tp M m) = V at st ⊢
      generalize dgp tp M m = D at st dl r0 ⊢
      have ei : (l.toInt64 ≤ V.toInt64 ∧ V.toInt64 ≤ v.toInt64) ↔ (l ≤ V ∧ V ≤ v) := by rw [sp_l64, sp_l64]
      have es : nI (m + D) - nI m = nI D := by rw [pk_sub (by omega)]; congr 1; omega
      by_cases r1 : D ≤ 5
      · have h5 : ¬ (5 : Int32) < nI D := nI_nlt (a := 5) (b := D) (by omega) (by omega)
        by_cases r2 : l ≤ V ∧ V ≤ v
        · rw [if_pos ⟨r1, r2⟩]
          refine ⟨fun k pl hk => (by cases hk), fun w m2 hw => ?_⟩
          cases hw
          refine ⟨dl, by omega, ?_⟩
          rw [st]
          simp only [eb_202_81, eb_202_110, jx_ns_r, jx_ns_n, jx_ns_q, jx_ns_i, jx_gl_0, jx_gl_s, if_true, if_false, ite_true, ite_false, eq_self, Bool.false_eq_true, List.length_cons, List.length_nil, Nat.zero_le, Nat.reduceAdd, Nat.reduceSub, Nat.reduceLeDiff, Nat.reduceLT, Nat.reduceEqDiff, Int.reduceToNat, reduceIte, xe_aload, jx_rv_r, jx_rv_n, jx_rv_q, xe_inv0, jx_cc_i, jx_cc_v, Nat.reduceMod, Nat.reduceDiv, jx_cl9_i, xe_pop, jx_2_i, jx_2_l, jx_2_r, jx_2_n, jx_2_q, or_self, xk_getf, jx_gf_i, jx_ov_s, ak_V, xe_istore, xk_iload, jx_iv_i, ak_I, xe_inv1, xe_iconst, xi_0, xx_0, xe_inv3, xe_goto_w, xe_ifeq, xe_isub, xi_5, xx_5, xe_icmp_ge, xi_10, xx_10, xe_imul, xk_bald, ja_ba, ak_A, true_or, or_true, xe_iadd, xi_48, xe_dup, xi_1, xx_1, xk_putf, ak_P, jx_pf_i, jx_pf_z, jx_pf_l, jx_pf_r, jx_pf_n, jx_pf_q, xe_goto, xe_icmp_gt, xe_i2l, xe_sta3, xe_ireturn, jx_s1, List.set_cons_zero, List.set_cons_succ, jx_2_u, jx_2_s, jx_k_i, jx_k_l, jx_k_r, jx_k_n, jx_k_u, jx_k_s, jx_k_q, tx_r ht, sw_r, sw_f, tx_f, tx_s, es, h5, cq_inL, ei, r2, and_self, sp_10, T_demand1 (l := 1) (by decide)]
        · rw [if_neg (fun q => r2 q.2)]
          refine ⟨fun k pl hk => ?_, fun w m2 hw => (by cases hw)⟩
          cases hk
          refine ⟨nI (m + D), ?_⟩
          rw [st]
          have ei2 : ¬ (l.toInt64 ≤ V.toInt64 ∧ V.toInt64 ≤ v.toInt64) := mt ei.mp r2
          have k1 : nI 1 = 1 := rfl
          simp only [eb_202_81, eb_202_109, eb_202_110, jx_ns_r, jx_ns_n, jx_ns_q, jx_ns_i, jx_gl_0, jx_gl_s, if_true, if_false, ite_true, ite_false, eq_self, Bool.false_eq_true, List.length_cons, List.length_nil, Nat.zero_le, Nat.reduceAdd, Nat.reduceSub, Nat.reduceLeDiff, Nat.reduceLT, Nat.reduceEqDiff, Int.reduceToNat, reduceIte, xe_aload, jx_rv_r, jx_rv_n, jx_rv_q, xe_inv0, jx_cc_i, jx_cc_v, Nat.reduceMod, Nat.reduceDiv, jx_cl9_i, xe_pop, jx_2_i, jx_2_l, jx_2_r, jx_2_n, jx_2_q, or_self, xk_getf, jx_gf_i, jx_ov_s, ak_V, xe_istore, xk_iload, jx_iv_i, ak_I, xe_inv1, xe_iconst, xi_0, xx_0, xe_inv3, xe_goto_w, xe_ifeq, xe_isub, xi_5, xx_5, xe_icmp_ge, xi_10, xx_10, xe_imul, xk_bald, ja_ba, ak_A, true_or, or_true, xe_iadd, xi_48, xe_dup, xi_1, xx_1, xk_putf, ak_P, jx_pf_i, jx_pf_z, jx_pf_l, jx_pf_r, jx_pf_n, jx_pf_q, xe_goto, xe_icmp_gt, xe_i2l, xe_sta3, xe_ireturn, jx_s1, List.set_cons_zero, List.set_cons_succ, jx_2_u, jx_2_s, jx_k_i, jx_k_l, jx_k_r, jx_k_n, jx_k_u, jx_k_s, jx_k_q, tx_r ht, sw_r, sw_f, tx_f, tx_s, es, h5, cq_inL, ei2, T_demand0 hT ht, jx_cc_x xh_202, k1]
      · have h5 : (5 : Int32) < nI D := nI_lt (a := 5) (by omega) (by omega)
        rw [if_neg (fun q => r1 q.1)]
        refine ⟨fun k pl hk => ?_, fun w m2 hw => (by cases hw)⟩
        cases hk
        refine ⟨nI (m + D), ?_⟩
        rw [st]
        have k1 : nI 1 = 1 := rfl
        simp only [eb_202_81, eb_202_109, eb_202_110, jx_ns_r, jx_ns_n, jx_ns_q, jx_ns_i, jx_gl_0, jx_gl_s, if_true, if_false, ite_true, ite_false, eq_self, Bool.false_eq_true, List.length_cons, List.length_nil, Nat.zero_le, Nat.reduceAdd, Nat.reduceSub, Nat.reduceLeDiff, Nat.reduceLT, Nat.reduceEqDiff, Int.reduceToNat, reduceIte, xe_aload, jx_rv_r, jx_rv_n, jx_rv_q, xe_inv0, jx_cc_i, jx_cc_v, Nat.reduceMod, Nat.reduceDiv, jx_cl9_i, xe_pop, jx_2_i, jx_2_l, jx_2_r, jx_2_n, jx_2_q, or_self, xk_getf, jx_gf_i, jx_ov_s, ak_V, xe_istore, xk_iload, jx_iv_i, ak_I, xe_inv1, xe_iconst, xi_0, xx_0, xe_inv3, xe_goto_w, xe_ifeq, xe_isub, xi_5, xx_5, xe_icmp_ge, xi_10, xx_10, xe_imul, xk_bald, ja_ba, ak_A, true_or, or_true, xe_iadd, xi_48, xe_dup, xi_1, xx_1, xk_putf, ak_P, jx_pf_i, jx_pf_z, jx_pf_l, jx_pf_r, jx_pf_n, jx_pf_q, xe_goto, xe_icmp_gt, xe_i2l, xe_sta3, xe_ireturn, jx_s1, List.set_cons_zero, List.set_cons_succ, jx_2_u, jx_2_s, jx_k_i, jx_k_l, jx_k_r, jx_k_n, jx_k_u, jx_k_s, jx_k_q, tx_r ht, sw_r, sw_f, tx_f, tx_s, es, h5, T_demand0 hT ht, jx_cc_x xh_202, k1]
    · intro k _ hk _
      have ek := dgp_k k (Nat.le_of_lt hk)
      have pos : 0 < dgp tp M (m + k) := by omega
      have pM := (dgp_0.mp pos).1
      have dk := fun d => dg d (m + k) (nI (m + k)) (by omega)
      rw [if_pos pos] at dk
      have i1 := sp_ix (show m + k < 400 by omega) (by decide)
      have es : nI (m + k) - nI m = nI k := by rw [pk_sub (by omega)]; congr 1; omega
      refine .inr ⟨(), trivial, ?_⟩
      rw [nv, eb_202_24]
      by_cases r : k < 5
      · have h5 : ¬ (5 : Int32) ≤ nI k := nI_ge (a := k) (b := 5) r (by omega)
        rw [if_pos r]
        simp only [eb_202_68, jx_ns_r, jx_ns_n, jx_ns_q, jx_ns_i, jx_gl_0, jx_gl_s, if_true, if_false, ite_true, ite_false, eq_self, Bool.false_eq_true, List.length_cons, List.length_nil, Nat.zero_le, Nat.reduceAdd, Nat.reduceSub, Nat.reduceLeDiff, Nat.reduceLT, Nat.reduceEqDiff, Int.reduceToNat, reduceIte, xe_aload, jx_rv_r, jx_rv_n, jx_rv_q, xe_inv0, jx_cc_i, jx_cc_v, Nat.reduceMod, Nat.reduceDiv, jx_cl9_i, xe_pop, jx_2_i, jx_2_l, jx_2_r, jx_2_n, jx_2_q, or_self, xk_getf, jx_gf_i, jx_ov_s, ak_V, xe_istore, xk_iload, jx_iv_i, ak_I, xe_inv1, xe_iconst, xi_0, xx_0, xe_inv3, xe_goto_w, xe_ifeq, xe_isub, xi_5, xx_5, xe_icmp_ge, xi_10, xx_10, xe_imul, xk_bald, ja_ba, ak_A, true_or, or_true, xe_iadd, xi_48, xe_dup, xi_1, xx_1, xk_putf, ak_P, jx_pf_i, jx_pf_z, jx_pf_l, jx_pf_r, jx_pf_n, jx_pf_q, xe_goto, xe_icmp_gt, xe_i2l, xe_sta3, xe_ireturn, jx_s1, List.set_cons_zero, List.set_cons_succ, jx_2_u, jx_2_s, jx_k_i, jx_k_l, jx_k_r, jx_k_n, jx_k_u, jx_k_s, jx_k_q, tx_r ht, tx_w ht, sw_r, sw_f, tx_f, tx_s, dk, sp_10, es, h5, i1, nI_1, Nat.add_assoc]
      · have h5 : (5 : Int32) ≤ nI k := nI_le (a := 5) (by omega) (by omega)
        rw [if_neg r]
        simp only [eb_202_68, jx_ns_r, jx_ns_n, jx_ns_q, jx_ns_i, jx_gl_0, jx_gl_s, if_true, if_false, ite_true, ite_false, eq_self, Bool.false_eq_true, List.length_cons, List.length_nil, Nat.zero_le, Nat.reduceAdd, Nat.reduceSub, Nat.reduceLeDiff, Nat.reduceLT, Nat.reduceEqDiff, Int.reduceToNat, reduceIte, xe_aload, jx_rv_r, jx_rv_n, jx_rv_q, xe_inv0, jx_cc_i, jx_cc_v, Nat.reduceMod, Nat.reduceDiv, jx_cl9_i, xe_pop, jx_2_i, jx_2_l, jx_2_r, jx_2_n, jx_2_q, or_self, xk_getf, jx_gf_i, jx_ov_s, ak_V, xe_istore, xk_iload, jx_iv_i, ak_I, xe_inv1, xe_iconst, xi_0, xx_0, xe_inv3, xe_goto_w, xe_ifeq, xe_isub, xi_5, xx_5, xe_icmp_ge, xi_10, xx_10, xe_imul, xk_bald, ja_ba, ak_A, true_or, or_true, xe_iadd, xi_48, xe_dup, xi_1, xx_1, xk_putf, ak_P, jx_pf_i, jx_pf_z, jx_pf_l, jx_pf_r, jx_pf_n, jx_pf_q, xe_goto, xe_icmp_gt, xe_i2l, xe_sta3, xe_ireturn, jx_s1, List.set_cons_zero, List.set_cons_succ, jx_2_u, jx_2_s, jx_k_i, jx_k_l, jx_k_r, jx_k_n, jx_k_u, jx_k_s, jx_k_q, tx_r ht, tx_w ht, sw_r, sw_f, tx_f, tx_s, dk, sp_10, es, h5, nI_1, Nat.add_assoc]
    · intro _ _
      have ek := dgp_k (tp := tp) (M := M) (p := m) (dgp tp M m) (Nat.le_refl _)
      have pos : ¬ 0 < dgp tp M (m + dgp tp M m) := by omega
      have dk := fun d => dg d (m + dgp tp M m) (nI (m + dgp tp M m)) (by omega)
      rw [if_neg pos] at dk
      rw [eb_202_24]
      simp only [jx_ns_r, jx_ns_n, jx_ns_q, jx_ns_i, jx_gl_0, jx_gl_s, if_true, if_false, ite_true, ite_false, eq_self, Bool.false_eq_true, List.length_cons, List.length_nil, Nat.zero_le, Nat.reduceAdd, Nat.reduceSub, Nat.reduceLeDiff, Nat.reduceLT, Nat.reduceEqDiff, Int.reduceToNat, reduceIte, xe_aload, jx_rv_r, jx_rv_n, jx_rv_q, xe_inv0, jx_cc_i, jx_cc_v, Nat.reduceMod, Nat.reduceDiv, jx_cl9_i, xe_pop, jx_2_i, jx_2_l, jx_2_r, jx_2_n, jx_2_q, or_self, xk_getf, jx_gf_i, jx_ov_s, ak_V, xe_istore, xk_iload, jx_iv_i, ak_I, xe_inv1, xe_iconst, xi_0, xx_0, xe_inv3, xe_goto_w, xe_ifeq, xe_isub, xi_5, xx_5, xe_icmp_ge, xi_10, xx_10, xe_imul, xk_bald, ja_ba, ak_A, true_or, or_true, xe_iadd, xi_48, xe_dup, xi_1, xx_1, xk_putf, ak_P, jx_pf_i, jx_pf_z, jx_pf_l, jx_pf_r, jx_pf_n, jx_pf_q, xe_goto, xe_icmp_gt, xe_i2l, xe_sta3, xe_ireturn, jx_s1, List.set_cons_zero, List.set_cons_succ, jx_2_u, jx_2_s, jx_k_i, jx_k_l, jx_k_r, jx_k_n, jx_k_u, jx_k_s, jx_k_q, tx_r ht, sw_r, sw_f, tx_f, tx_s, dk]
theorem T_makes1 (ht : 151 ≤ t) (hg : g < 60) : jx_cr (d + 2) 203 [.ref t, .int v] (sw (tx h t n' e' (nI g) u') cu F o p q z T x ru im tp R) = some (.inl none, sw (tx h t n' e' (nI (g + 1)) u') cu F o p q z T x ru im tp R) := by
  have h3 : ¬ (60 : Int32) ≤ nI g := nI_ge (a := g) (b := 60) hg (by omega)
  simp only [cr_203, eb_203_0, eb_203_14, eb_203_15, jx_ns_r, jx_ns_n, jx_ns_q, jx_ns_i, jx_gl_0, jx_gl_s, if_true, if_false, ite_true, ite_false, eq_self, Bool.false_eq_true, List.length_cons, List.length_nil, Nat.zero_le, Nat.reduceAdd, Nat.reduceSub, Nat.reduceLeDiff, Nat.reduceLT, Nat.reduceEqDiff, Int.reduceToNat, reduceIte, xe_aload, jx_rv_r, jx_rv_n, jx_rv_q, xk_getf, jx_gf_i, jx_ov_s, ak_V, xe_iconst, xi_60, xe_icmp_ge, xi_1, xx_1, xe_goto, xi_0, xx_0, xe_goto_w, xi_3, xx_3, xk_iload, jx_iv_i, ak_I, xe_inv3, jx_cc_i, jx_cc_v, Nat.reduceMod, Nat.reduceDiv, jx_cl9_i, xe_dup, jx_2_i, jx_2_l, jx_2_r, jx_2_n, jx_2_q, or_self, xe_iadd, xk_putf, ak_P, jx_pf_i, jx_pf_z, jx_pf_l, jx_pf_r, jx_pf_n, jx_pf_q, xe_return, tx_r ht, tx_w ht, sw_r, sw_f, tx_f, tx_s, h3, T_demand1 (l := 1) (by decide), nI_1]
theorem T_makes0 (hT : T.length = 6) (ht : 151 ≤ t) : jx_cr (d + 2) 203 [.ref t, .int v] (sw (tx h t n' e' (nI 60) u') cu F o p q z T x ru im tp R) = some (.inr (), sw (tx h t n' e' (nI 60) u') cu F o p q z T (3, v) ru im tp R) := by
  have h3 : (60 : Int32) ≤ nI 60 := by decide
  simp only [cr_203, eb_203_0, eb_203_14, eb_203_15, jx_ns_r, jx_ns_n, jx_ns_q, jx_ns_i, jx_gl_0, jx_gl_s, if_true, if_false, ite_true, ite_false, eq_self, Bool.false_eq_true, List.length_cons, List.length_nil, Nat.zero_le, Nat.reduceAdd, Nat.reduceSub, Nat.reduceLeDiff, Nat.reduceLT, Nat.reduceEqDiff, Int.reduceToNat, reduceIte, xe_aload, jx_rv_r, jx_rv_n, jx_rv_q, xk_getf, jx_gf_i, jx_ov_s, ak_V, xe_iconst, xi_60, xe_icmp_ge, xi_1, xx_1, xe_goto, xi_0, xx_0, xe_goto_w, xi_3, xx_3, xk_iload, jx_iv_i, ak_I, xe_inv3, jx_cc_i, jx_cc_v, Nat.reduceMod, Nat.reduceDiv, jx_cl9_i, xe_dup, jx_2_i, jx_2_l, jx_2_r, jx_2_n, jx_2_q, or_self, xe_iadd, xk_putf, ak_P, jx_pf_i, jx_pf_z, jx_pf_l, jx_pf_r, jx_pf_n, jx_pf_q, xe_return, tx_r ht, sw_r, sw_f, tx_f, tx_s, h3, T_demand0 hT ht, jx_cc_x xh_203]
theorem T_opens1 (ht : 151 ≤ t) (hg : e < 10) : jx_cr (d + 2) 204 [.ref t, .int v] (sw (tx h t n' (nI e) g' u') cu F o p q z T x ru im tp R) = some (.inl none, sw (tx h t n' (nI (e + 1)) g' u') cu F o p q z T x ru im tp R) := by
  have h3 : ¬ (10 : Int32) ≤ nI e := nI_ge (a := e) (b := 10) hg (by omega)
  simp only [cr_204, eb_204_0, eb_204_14, eb_204_15, jx_ns_r, jx_ns_n, jx_ns_q, jx_ns_i, jx_gl_0, jx_gl_s, if_true, if_false, ite_true, ite_false, eq_self, Bool.false_eq_true, List.length_cons, List.length_nil, Nat.zero_le, Nat.reduceAdd, Nat.reduceSub, Nat.reduceLeDiff, Nat.reduceLT, Nat.reduceEqDiff, Int.reduceToNat, reduceIte, xe_aload, jx_rv_r, jx_rv_n, jx_rv_q, xk_getf, jx_gf_i, jx_ov_s, ak_V, xe_iconst, xi_10, xx_10, xe_icmp_ge, xi_1, xx_1, xe_goto, xi_0, xx_0, xe_goto_w, xi_2, xx_2, xk_iload, jx_iv_i, ak_I, xe_inv3, jx_cc_i, jx_cc_v, Nat.reduceMod, Nat.reduceDiv, jx_cl9_i, xe_dup, jx_2_i, jx_2_l, jx_2_r, jx_2_n, jx_2_q, or_self, xe_iadd, xk_putf, ak_P, jx_pf_i, jx_pf_z, jx_pf_l, jx_pf_r, jx_pf_n, jx_pf_q, xe_return, tx_r ht, tx_w ht, sw_r, sw_f, tx_f, tx_s, h3, T_demand1 (l := 1) (by decide), nI_1]
theorem T_opens0 (hT : T.length = 6) (ht : 151 ≤ t) : jx_cr (d + 2) 204 [.ref t, .int v] (sw (tx h t n' (nI 10) g' u') cu F o p q z T x ru im tp R) = some (.inr (), sw (tx h t n' (nI 10) g' u') cu F o p q z T (2, v) ru im tp R) := by
  have h3 : (10 : Int32) ≤ nI 10 := by decide
  simp only [cr_204, eb_204_0, eb_204_14, eb_204_15, jx_ns_r, jx_ns_n, jx_ns_q, jx_ns_i, jx_gl_0, jx_gl_s, if_true, if_false, ite_true, ite_false, eq_self, Bool.false_eq_true, List.length_cons, List.length_nil, Nat.zero_le, Nat.reduceAdd, Nat.reduceSub, Nat.reduceLeDiff, Nat.reduceLT, Nat.reduceEqDiff, Int.reduceToNat, reduceIte, xe_aload, jx_rv_r, jx_rv_n, jx_rv_q, xk_getf, jx_gf_i, jx_ov_s, ak_V, xe_iconst, xi_10, xx_10, xe_icmp_ge, xi_1, xx_1, xe_goto, xi_0, xx_0, xe_goto_w, xi_2, xx_2, xk_iload, jx_iv_i, ak_I, xe_inv3, jx_cc_i, jx_cc_v, Nat.reduceMod, Nat.reduceDiv, jx_cl9_i, xe_dup, jx_2_i, jx_2_l, jx_2_r, jx_2_n, jx_2_q, or_self, xe_iadd, xk_putf, ak_P, jx_pf_i, jx_pf_z, jx_pf_l, jx_pf_r, jx_pf_n, jx_pf_q, xe_return, tx_r ht, sw_r, sw_f, tx_f, tx_s, h3, T_demand0 hT ht, jx_cc_x xh_204]
end SDD
