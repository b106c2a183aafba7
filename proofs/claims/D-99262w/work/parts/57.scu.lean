/-! SpoonCourt: ruled, alikeIn, look -/
set_option maxRecDepth 100000
def sp_mx (f : Nat → Int32) : Nat → Int32
  | 0 => 0
  | m + 1 => if sp_mx f m < f m then f m else sp_mx f m
/-- how many rules that fit hold t in hour n; the most, over all t -/
def sp_ai (P : Nat → Bool) (f : Nat → Nat → Int32) (rm tm n : Nat) : Int32 := sp_mx (fun j => ct (fun k => P k && decide (f k n = nI j - 1)) (rm + 1) 0) (tm + 1)
def sp_lkb (f : Nat → Int32) : Nat → Nat
  | 0 => 0
  | m + 1 => if f (m + 1) < f (sp_lkb f m) then m + 1 else sp_lkb f m
def sp_lkv (f : Nat → Int32) (k : Int32) : Int32 := if f (sp_lkb f 60) = 0 then -2 else if k = 0 then nI (sp_lkb f 60) else f (sp_lkb f 60)
def sp_rdv (P : Nat → Bool) (rm : Nat) (k : Int32) : Int32 := if k = 0 then ct P (rm + 1) 0 else match fd P (rm + 1) 0 with
  | none => -2
  | some c => nI c - 1
theorem sp_lkb_le {f : Nat → Int32} : ∀ m, sp_lkb f m ≤ m := by
  intro m
  induction m with
  | zero => exact Nat.le_refl _
  | succ m ih =>
    rw [sp_lkb]
    split <;> omega
theorem ct_e {P : Nat → Bool} : ∀ m i, ct P (m + 1) i = ct P m i + (if P (i + m) = true then 1 else 0) := by
  intro m
  induction m with
  | zero => intro i; simp only [ct, Nat.add_zero]
  | succ m ih =>
    intro i
    rw [ct, ih (i + 1), ct, show i + 1 + m = i + (m + 1) by omega, Int32.add_assoc, Int32.add_assoc]
    congr 1
    exact Int32.add_comm _ _
theorem ct_c {P Q : Nat → Bool} : ∀ m i, (∀ k, i ≤ k → k < i + m → P k = Q k) → ct P m i = ct Q m i := by
  intro m
  induction m with
  | zero => intros; rfl
  | succ m ih =>
    intro i h
    rw [ct, ct, h i (by omega) (by omega), ih (i + 1) (fun k h1 h2 => h k (by omega) (by omega))]
section SU
variable {d : Nat} {h : jx_H} {cu : Option Nat} {F : Nat → Int32} {o p q z : cq_C} {T : List Value} {x : Int32 × Int32} {ru im : Nat → Option Nat} {tp : Nat → Int32} {R : Nat → Nat → Int32} {s : Nat → Int32} {a : Nat → Nat → Int32} {w : Nat → Int64}
variable {i k : Int32} {t tm pm day um now D n : Nat} {lo : Option Nat} {Lo : Option ((Nat → Int64) → Int64)} {ps : Nat → Int32} {pa : Nat → Nat → Int32} {pw : Nat → Int64}
variable {u v nm rm : Nat} {Lr : Nat → (Nat → Int64) → Int64} {P : Nat → Bool} {f : Nat → Nat → Int32}
theorem sc_ruled0 : jx_cr (d + 2) 46 [.ref 48, .int i] (sw h none F o p q z T x ru im tp R) = some (.inl (some (.int (-3))), (sw h none F o p q z T x ru im tp R)) := by
  simp only [cr_46, eb_46_0, eb_46_17, jx_ns_r, jx_ns_n, jx_ns_q, jx_ns_i, jx_gl_0, jx_gl_s, if_true, if_false, ite_true, ite_false, eq_self, Bool.false_eq_true, List.length_cons, List.length_nil, Nat.zero_le, Nat.reduceAdd, Nat.reduceSub, Nat.reduceLeDiff, Nat.reduceLT, Nat.reduceEqDiff, Int.reduceToNat, reduceIte, xe_aload, jx_rv_r, jx_rv_n, jx_rv_q, xk_getf, jx_gf_i, jx_ov_s, ak_V, xe_ifnull_n, xe_ifnull_r, xk_iload, jx_iv_i, ak_I, xe_i2l, xe_lconst, xl_0, xl_1, xe_sta3, jx_cc_i, jx_cc_v, Nat.reduceMod, Nat.reduceDiv, xe_ifne, xe_goto_w, xe_iconst, xi_m3, xe_ireturn, xe_inv0, jx_cl9_i, xi_0, xx_0, xe_istore, xi_m2, xe_iflt, xk_bald, ja_ba, ak_A, true_or, or_true, xe_goto, xk_iinc, ak_C, xi_1, xx_1, xe_isub, xi_m1, jx_s1, List.set_cons_zero, List.set_cons_succ, jx_2_i, jx_2_l, jx_2_r, jx_2_n, jx_2_u, jx_2_s, jx_2_q, jx_k_i, jx_k_l, jx_k_r, jx_k_n, jx_k_u, jx_k_s, jx_k_q, sw_r, sw_f, sw_s, sw_wo, sw_ro, sw_rp, sw_woo, sw_wor, sw_wpo, sw_wpr, cq_f, cq_s, va_up_s, va_rf_s, va_rf_n]
theorem sc_ruled1 (hq : ¬ (0 ≤ i.toInt64 ∧ i.toInt64 ≤ 1)) : jx_cr (d + 2) 46 [.ref 48, .int i] (sw h (some 49) F (s, a, w) p q z T x ru im tp R) = some (.inl (some (.int (-3))), (sw h (some 49) F (s, a, w) p q z T x ru im tp R)) := by
  simp only [cr_46, eb_46_0, eb_46_17, jx_ns_r, jx_ns_n, jx_ns_q, jx_ns_i, jx_gl_0, jx_gl_s, if_true, if_false, ite_true, ite_false, eq_self, Bool.false_eq_true, List.length_cons, List.length_nil, Nat.zero_le, Nat.reduceAdd, Nat.reduceSub, Nat.reduceLeDiff, Nat.reduceLT, Nat.reduceEqDiff, Int.reduceToNat, reduceIte, xe_aload, jx_rv_r, jx_rv_n, jx_rv_q, xk_getf, jx_gf_i, jx_ov_s, ak_V, xe_ifnull_n, xe_ifnull_r, xk_iload, jx_iv_i, ak_I, xe_i2l, xe_lconst, xl_0, xl_1, xe_sta3, jx_cc_i, jx_cc_v, Nat.reduceMod, Nat.reduceDiv, xe_ifne, xe_goto_w, xe_iconst, xi_m3, xe_ireturn, xe_inv0, jx_cl9_i, xi_0, xx_0, xe_istore, xi_m2, xe_iflt, xk_bald, ja_ba, ak_A, true_or, or_true, xe_goto, xk_iinc, ak_C, xi_1, xx_1, xe_isub, xi_m1, jx_s1, List.set_cons_zero, List.set_cons_succ, jx_2_i, jx_2_l, jx_2_r, jx_2_n, jx_2_u, jx_2_s, jx_2_q, jx_k_i, jx_k_l, jx_k_r, jx_k_n, jx_k_u, jx_k_s, jx_k_q, sw_r, sw_f, sw_s, sw_wo, sw_ro, sw_rp, sw_woo, sw_wor, sw_wpo, sw_wpr, cq_f, cq_s, va_up_s, va_rf_s, va_rf_n, cq_inL, hq]
theorem sp_ruled2 (hrm : rm ≤ 6) (hP : ∀ k, k ≤ rm → R 3 k = sp_bl (P k = true)) : jx_eb d 46 35 [.ref 48, .int k, .int 0, .int (-2), .int (nI rm)] [] (sw h cu F o p q z T x ru im tp R) = some (.inl (some (.int (sp_rdv P rm k))), (sw h cu F o p q z T x ru im tp R)) := by
  have key := jx_lp (d := d) (y := 46) (L := 35) (n := rm + 1) (γ := Unit) (ls := fun m _ => [.ref 48, .int k, .int (ct P m (rm + 1 - m)), .int (match fd P m (rm + 1 - m) with | none => -2 | some c => nI c - 1), .int (nI rm - nI m)]) (H := fun _ _ => (sw h cu F o p q z T x ru im tp R))
    (I := fun _ _ => True)
    (G := fun r => r = some (.inl (some (.int (sp_rdv P rm k))), (sw h cu F o p q z T x ru im tp R))) ?_ ?_ (rm + 1) 0 () (by omega) trivial
  · have e0 : nI rm - nI 0 = nI rm := dn_0
    simp only [ct, fd, e0] at key
    exact key
  · intro m _ hm _
    have em := pk_sub (show m ≤ rm by omega)
    have em1 : nI (rm - m) + (-1) = nI rm - nI (m + 1) := dn_s (by omega)
    have h3 : ¬ nI (rm - m) < 0 := nI_pos (by omega)
    have i1 := sp_ix (show rm - m < 7 by omega) (by decide)
    have hP := hP (rm - m) (by omega)
    refine .inr ⟨(), trivial, ?_⟩
    rw [em, show rm + 1 - m = (rm - m) + 1 by omega, show rm + 1 - (m + 1) = rm - m by omega, eb_46_35]
    by_cases r : P (rm - m) = true
    · rw [sp_bl_t r] at hP
      simp only [eb_46_53, eb_46_61, jx_ns_r, jx_ns_n, jx_ns_q, jx_ns_i, jx_gl_0, jx_gl_s, if_true, if_false, ite_true, ite_false, eq_self, Bool.false_eq_true, List.length_cons, List.length_nil, Nat.zero_le, Nat.reduceAdd, Nat.reduceSub, Nat.reduceLeDiff, Nat.reduceLT, Nat.reduceEqDiff, Int.reduceToNat, reduceIte, xe_aload, jx_rv_r, jx_rv_n, jx_rv_q, xk_getf, jx_gf_i, jx_ov_s, ak_V, xe_ifnull_n, xe_ifnull_r, xk_iload, jx_iv_i, ak_I, xe_i2l, xe_lconst, xl_0, xl_1, xe_sta3, jx_cc_i, jx_cc_v, Nat.reduceMod, Nat.reduceDiv, xe_ifne, xe_goto_w, xe_iconst, xi_m3, xe_ireturn, xe_inv0, jx_cl9_i, xi_0, xx_0, xe_istore, xi_m2, xe_iflt, xk_bald, ja_ba, ak_A, true_or, or_true, xe_goto, xk_iinc, ak_C, xi_1, xx_1, xe_isub, xi_m1, jx_s1, List.set_cons_zero, List.set_cons_succ, jx_2_i, jx_2_l, jx_2_r, jx_2_n, jx_2_u, jx_2_s, jx_2_q, jx_k_i, jx_k_l, jx_k_r, jx_k_n, jx_k_u, jx_k_s, jx_k_q, sw_r, sw_f, sw_s, sw_wo, sw_ro, sw_rp, sw_woo, sw_wor, sw_wpo, sw_wpr, cq_f, cq_s, va_up_s, va_rf_s, va_rf_n, h3, i1, hP, sp_10, em1, ct, fd, r]
    · rw [sp_bl_f r] at hP
      have a0 : ∀ y : Int32, y + 0 = y := Int32.add_zero
      simp only [eb_46_61, jx_ns_r, jx_ns_n, jx_ns_q, jx_ns_i, jx_gl_0, jx_gl_s, if_true, if_false, ite_true, ite_false, eq_self, Bool.false_eq_true, List.length_cons, List.length_nil, Nat.zero_le, Nat.reduceAdd, Nat.reduceSub, Nat.reduceLeDiff, Nat.reduceLT, Nat.reduceEqDiff, Int.reduceToNat, reduceIte, xe_aload, jx_rv_r, jx_rv_n, jx_rv_q, xk_getf, jx_gf_i, jx_ov_s, ak_V, xe_ifnull_n, xe_ifnull_r, xk_iload, jx_iv_i, ak_I, xe_i2l, xe_lconst, xl_0, xl_1, xe_sta3, jx_cc_i, jx_cc_v, Nat.reduceMod, Nat.reduceDiv, xe_ifne, xe_goto_w, xe_iconst, xi_m3, xe_ireturn, xe_inv0, jx_cl9_i, xi_0, xx_0, xe_istore, xi_m2, xe_iflt, xk_bald, ja_ba, ak_A, true_or, or_true, xe_goto, xk_iinc, ak_C, xi_1, xx_1, xe_isub, xi_m1, jx_s1, List.set_cons_zero, List.set_cons_succ, jx_2_i, jx_2_l, jx_2_r, jx_2_n, jx_2_u, jx_2_s, jx_2_q, jx_k_i, jx_k_l, jx_k_r, jx_k_n, jx_k_u, jx_k_s, jx_k_q, sw_r, sw_f, sw_s, sw_wo, sw_ro, sw_rp, sw_woo, sw_wor, sw_wpo, sw_wpr, cq_f, cq_s, va_up_s, va_rf_s, va_rf_n, h3, i1, hP, em1, ct, fd, r, a0]
  · intro _ _
    have e9 : nI rm - nI (rm + 1) = -1 := dn_e
    have h9 : (-1 : Int32) < 0 := by decide
    rw [e9, Nat.sub_self]
    by_cases r : k = 0 <;> simp only [eb_46_35, eb_46_67, eb_46_75, eb_46_76, jx_ns_r, jx_ns_n, jx_ns_q, jx_ns_i, jx_gl_0, jx_gl_s, if_true, if_false, ite_true, ite_false, eq_self, Bool.false_eq_true, List.length_cons, List.length_nil, Nat.zero_le, Nat.reduceAdd, Nat.reduceSub, Nat.reduceLeDiff, Nat.reduceLT, Nat.reduceEqDiff, Int.reduceToNat, reduceIte, xe_aload, jx_rv_r, jx_rv_n, jx_rv_q, xk_getf, jx_gf_i, jx_ov_s, ak_V, xe_ifnull_n, xe_ifnull_r, xk_iload, jx_iv_i, ak_I, xe_i2l, xe_lconst, xl_0, xl_1, xe_sta3, jx_cc_i, jx_cc_v, Nat.reduceMod, Nat.reduceDiv, xe_ifne, xe_goto_w, xe_iconst, xi_m3, xe_ireturn, xe_inv0, jx_cl9_i, xi_0, xx_0, xe_istore, xi_m2, xe_iflt, xk_bald, ja_ba, ak_A, true_or, or_true, xe_goto, xk_iinc, ak_C, xi_1, xx_1, xe_isub, xi_m1, jx_s1, List.set_cons_zero, List.set_cons_succ, jx_2_i, jx_2_l, jx_2_r, jx_2_n, jx_2_u, jx_2_s, jx_2_q, jx_k_i, jx_k_l, jx_k_r, jx_k_n, jx_k_u, jx_k_s, jx_k_q, h9, r, sp_rdv] <;> rfl
theorem sc_ruled (iv : cq_iv s a day tm pm now) (hN : sp_nt s a nm) (hR : sp_rs (D + 2) h ru Lr rm) (eF : F 14 = nI rm) (hk : 0 ≤ k.toInt64 ∧ k.toInt64 ≤ 1) :
    ∃ p' R', jx_cr (d + D + 8) 46 [.ref 48, .int k] (sw h (some 49) F (s, a, w) (ps, pa, pw) q z T x ru im tp R) = some (.inl (some (.int (sp_rdv (sp_fit Lr s a nm) rm k))), sw h (some 49) F (s, a, w) p' q z T x ru im tp R') := by
  obtain ⟨p', R', h1, h2, e⟩ := sp_gathers (d := d) (F := F) (w := w) (q := q) (z := z) (T := T) (x := x) (im := im) (tp := tp) (R := R) (ps := ps) (pa := pa) (pw := pw) iv hN hR eF
  have l := sp_ruled2 (d := d + D + 7) (h := h) (cu := some 49) (F := F) (o := (s, a, w)) (p := p') (q := q) (z := z) (T := T) (x := x) (ru := ru) (im := im) (tp := tp) (R := R') (k := k) hR.1 h1
  refine ⟨p', R', ?_⟩
  simp only [cr_46, eb_46_0, eb_46_20, jx_ns_r, jx_ns_n, jx_ns_q, jx_ns_i, jx_gl_0, jx_gl_s, if_true, if_false, ite_true, ite_false, eq_self, Bool.false_eq_true, List.length_cons, List.length_nil, Nat.zero_le, Nat.reduceAdd, Nat.reduceSub, Nat.reduceLeDiff, Nat.reduceLT, Nat.reduceEqDiff, Int.reduceToNat, reduceIte, xe_aload, jx_rv_r, jx_rv_n, jx_rv_q, xk_getf, jx_gf_i, jx_ov_s, ak_V, xe_ifnull_n, xe_ifnull_r, xk_iload, jx_iv_i, ak_I, xe_i2l, xe_lconst, xl_0, xl_1, xe_sta3, jx_cc_i, jx_cc_v, Nat.reduceMod, Nat.reduceDiv, xe_ifne, xe_goto_w, xe_iconst, xi_m3, xe_ireturn, xe_inv0, jx_cl9_i, xi_0, xx_0, xe_istore, xi_m2, xe_iflt, xk_bald, ja_ba, ak_A, true_or, or_true, xe_goto, xk_iinc, ak_C, xi_1, xx_1, xe_isub, xi_m1, jx_s1, List.set_cons_zero, List.set_cons_succ, jx_2_i, jx_2_l, jx_2_r, jx_2_n, jx_2_u, jx_2_s, jx_2_q, jx_k_i, jx_k_l, jx_k_r, jx_k_n, jx_k_u, jx_k_s, jx_k_q, sw_r, sw_f, sw_s, sw_wo, sw_ro, sw_rp, sw_woo, sw_wor, sw_wpo, sw_wpr, cq_f, cq_s, va_up_s, va_rf_s, va_rf_n, cq_inL, hk, and_self, sp_10, e, eF]
  exact l
theorem sp_alikeIn (hrm : rm ≤ 6) (hv : v ≤ 60) (htm : tm ≤ 6) (et : s 2 = nI tm) (eF : F 14 = nI rm) (hP : ∀ k, k ≤ rm → R 3 k = sp_bl (P k = true)) (hf : ∀ k n, k ≤ rm → n ≤ 60 → R 4 (61 * k + n) = f k n) : jx_cr (d + 2) 47 [.ref 48, .int (nI v)] (sw h (some 49) F (s, a, w) p q z T x ru im tp R) = some (.inl (some (.int (sp_ai P f rm tm v))), (sw h (some 49) F (s, a, w) p q z T x ru im tp R)) := by
  have hh := fun (d : Nat) (u : Nat) (hu : u ≤ 6) => sp_heldBy (d := d) (h := h) (cu := some 49) (F := F) (o := (s, a, w)) (p := p) (q := q) (z := z) (T := T) (x := x) (ru := ru) (im := im) (tp := tp) (R := R) hu hv
  have key := jx_lp (d := d + 1) (y := 47) (L := 4) (n := tm + 1) (γ := Value × Value) (ls := fun m g => [.ref 48, .int (nI v), .int (sp_mx (fun j => ct (fun k => P k && decide (f k v = nI j - 1)) (rm + 1) 0) m), .int (nI m - 1), g.1, g.2]) (H := fun _ _ => (sw h (some 49) F (s, a, w) p q z T x ru im tp R))
    (I := fun m g => (g = (jx_un, jx_un) ∨ ∃ v v', g = (.int v, .int v')))
    (G := fun r => r = some (.inl (some (.int (sp_ai P f rm tm v))), (sw h (some 49) F (s, a, w) p q z T x ru im tp R))) ?_ ?_ (tm + 1) 0 (jx_un, jx_un) (by omega) (.inl rfl)
  · have e0 : nI 0 - 1 = -1 := by decide
    simp only [sp_mx, e0] at key
    simp only [cr_47, eb_47_0, jx_ns_r, jx_ns_n, jx_ns_q, jx_ns_i, jx_gl_0, jx_gl_s, if_true, if_false, ite_true, ite_false, eq_self, Bool.false_eq_true, List.length_cons, List.length_nil, Nat.zero_le, Nat.reduceAdd, Nat.reduceSub, Nat.reduceLeDiff, Nat.reduceLT, Nat.reduceEqDiff, Int.reduceToNat, reduceIte, xe_iconst, xi_0, xx_0, xe_istore, xi_m1, xe_goto_w, xk_iload, jx_iv_i, ak_I, xe_aload, jx_rv_r, jx_rv_n, jx_rv_q, xk_getf, jx_gf_i, jx_ov_s, ak_V, xe_icmp_ge, xe_icmp_gt, xk_bald, ja_ba, ak_A, true_or, or_true, xe_ifeq, xe_inv2, jx_cc_i, jx_cc_v, Nat.reduceMod, Nat.reduceDiv, jx_cl9_i, xe_icmp_ne, xi_1, xx_1, xe_goto, xe_iadd, xk_iinc, ak_C, xe_max, xe_ireturn, jx_s1, List.set_cons_zero, List.set_cons_succ, jx_2_i, jx_2_l, jx_2_r, jx_2_n, jx_2_u, jx_2_s, jx_2_q, jx_k_i, jx_k_l, jx_k_r, jx_k_n, jx_k_u, jx_k_s, jx_k_q]
    exact key
  · intro m g hm hg
    have h3 : ¬ nI tm ≤ nI m - 1 := by
      rw [Int32.not_le, Int32.lt_iff_toInt_lt, nI_toInt (by omega), show (1 : Int32) = nI 1 from rfl, pk_sub_toInt (by omega) (by omega)]
      omega
    have inner := jx_lp (d := d + 1) (y := 47) (L := 21) (n := rm + 1) (γ := Unit) (ls := fun u _ => [.ref 48, .int (nI v), .int (sp_mx (fun j => ct (fun k => P k && decide (f k v = nI j - 1)) (rm + 1) 0) m), .int (nI m - 1), .int (ct (fun k => P k && decide (f k v = nI m - 1)) u 0), .int (nI u)]) (H := fun _ _ => (sw h (some 49) F (s, a, w) p q z T x ru im tp R))
      (I := fun _ _ => True)
      (G := fun r => r = jx_eb (d + 1) 47 67 [.ref 48, .int (nI v), .int (sp_mx (fun j => ct (fun k => P k && decide (f k v = nI j - 1)) (rm + 1) 0) m), .int (nI m - 1), .int (ct (fun k => P k && decide (f k v = nI m - 1)) (rm + 1) 0), .int (nI (rm + 1))] [] (sw h (some 49) F (s, a, w) p q z T x ru im tp R)) ?_ ?_ (rm + 1) 0 () (by omega) trivial
    · refine .inr ⟨(.int (ct (fun k => P k && decide (f k v = nI m - 1)) (rm + 1) 0), .int (nI (rm + 1))), .inr ⟨_, _, rfl⟩, ?_⟩
      have e0 : jx_eb (d + 1) 47 4 [.ref 48, .int (nI v), .int (sp_mx (fun j => ct (fun k => P k && decide (f k v = nI j - 1)) (rm + 1) 0) m), .int (nI m - 1), g.1, g.2] [] (sw h (some 49) F (s, a, w) p q z T x ru im tp R) = jx_eb (d + 1) 47 21 [.ref 48, .int (nI v), .int (sp_mx (fun j => ct (fun k => P k && decide (f k v = nI j - 1)) (rm + 1) 0) m), .int (nI m - 1), .int 0, .int 0] [] (sw h (some 49) F (s, a, w) p q z T x ru im tp R) := by
        rcases hg with hg | ⟨v', v2, hg⟩ <;> subst hg <;> simp only [eb_47_4, jx_ns_r, jx_ns_n, jx_ns_q, jx_ns_i, jx_gl_0, jx_gl_s, if_true, if_false, ite_true, ite_false, eq_self, Bool.false_eq_true, List.length_cons, List.length_nil, Nat.zero_le, Nat.reduceAdd, Nat.reduceSub, Nat.reduceLeDiff, Nat.reduceLT, Nat.reduceEqDiff, Int.reduceToNat, reduceIte, xe_iconst, xi_0, xx_0, xe_istore, xi_m1, xe_goto_w, xk_iload, jx_iv_i, ak_I, xe_aload, jx_rv_r, jx_rv_n, jx_rv_q, xk_getf, jx_gf_i, jx_ov_s, ak_V, xe_icmp_ge, xe_icmp_gt, xk_bald, ja_ba, ak_A, true_or, or_true, xe_ifeq, xe_inv2, jx_cc_i, jx_cc_v, Nat.reduceMod, Nat.reduceDiv, jx_cl9_i, xe_icmp_ne, xi_1, xx_1, xe_goto, xe_iadd, xk_iinc, ak_C, xe_max, xe_ireturn, jx_s1, List.set_cons_zero, List.set_cons_succ, jx_2_i, jx_2_l, jx_2_r, jx_2_n, jx_2_u, jx_2_s, jx_2_q, jx_k_i, jx_k_l, jx_k_r, jx_k_n, jx_k_u, jx_k_s, jx_k_q, sw_r, sw_f, sw_s, sw_wo, sw_ro, sw_rp, sw_woo, sw_wor, sw_wpo, sw_wpr, cq_f, cq_s, va_up_s, va_rf_s, va_rf_n, et, h3]
      simp only [ct, nI_0] at inner
      refine e0.trans (inner.trans ?_)
      have em : nI m - 1 + 1 = nI (m + 1) - 1 := by
        rw [← nI_1, Int32.sub_add_cancel, Int32.add_sub_cancel]
      generalize hc : ct (fun k => P k && decide (f k v = nI m - 1)) (rm + 1) 0 = c
      have hc' : (fun j => ct (fun k => P k && decide (f k v = nI j - 1)) (rm + 1) 0) m = c := hc
      simp only [ct] at hc
      simp only [hc, eb_47_67, jx_ns_r, jx_ns_n, jx_ns_q, jx_ns_i, jx_gl_0, jx_gl_s, if_true, if_false, ite_true, ite_false, eq_self, Bool.false_eq_true, List.length_cons, List.length_nil, Nat.zero_le, Nat.reduceAdd, Nat.reduceSub, Nat.reduceLeDiff, Nat.reduceLT, Nat.reduceEqDiff, Int.reduceToNat, reduceIte, xe_iconst, xi_0, xx_0, xe_istore, xi_m1, xe_goto_w, xk_iload, jx_iv_i, ak_I, xe_aload, jx_rv_r, jx_rv_n, jx_rv_q, xk_getf, jx_gf_i, jx_ov_s, ak_V, xe_icmp_ge, xe_icmp_gt, xk_bald, ja_ba, ak_A, true_or, or_true, xe_ifeq, xe_inv2, jx_cc_i, jx_cc_v, Nat.reduceMod, Nat.reduceDiv, jx_cl9_i, xe_icmp_ne, xi_1, xx_1, xe_goto, xe_iadd, xk_iinc, ak_C, xe_max, xe_ireturn, jx_s1, List.set_cons_zero, List.set_cons_succ, jx_2_i, jx_2_l, jx_2_r, jx_2_n, jx_2_u, jx_2_s, jx_2_q, jx_k_i, jx_k_l, jx_k_r, jx_k_n, jx_k_u, jx_k_s, jx_k_q, em, sp_mx]
      simp only [ct, hc]
    · intro u _ hu _
      have h4 : ¬ nI rm < nI u := nI_nlt (by omega) (by omega)
      have i1 := sp_ix (show u < 7 by omega) (by decide)
      have hP := hP u (by omega)
      have hh := fun d => hh d u (by omega)
      have hf := hf u v (by omega) hv
      refine .inr ⟨(), trivial, ?_⟩
      rw [ct_e, Nat.zero_add, eb_47_21]
      by_cases r : P u = true
      · rw [sp_bl_t r] at hP
        by_cases r2 : f u v = nI m - 1
        · have e1 : (P u && decide (f u v = nI m - 1)) = true := by rw [r, decide_eq_true r2]; rfl
          rw [if_pos e1]
          rw [r2] at hf
          simp only [eb_47_58, jx_ns_r, jx_ns_n, jx_ns_q, jx_ns_i, jx_gl_0, jx_gl_s, if_true, if_false, ite_true, ite_false, eq_self, Bool.false_eq_true, List.length_cons, List.length_nil, Nat.zero_le, Nat.reduceAdd, Nat.reduceSub, Nat.reduceLeDiff, Nat.reduceLT, Nat.reduceEqDiff, Int.reduceToNat, reduceIte, xe_iconst, xi_0, xx_0, xe_istore, xi_m1, xe_goto_w, xk_iload, jx_iv_i, ak_I, xe_aload, jx_rv_r, jx_rv_n, jx_rv_q, xk_getf, jx_gf_i, jx_ov_s, ak_V, xe_icmp_ge, xe_icmp_gt, xk_bald, ja_ba, ak_A, true_or, or_true, xe_ifeq, xe_inv2, jx_cc_i, jx_cc_v, Nat.reduceMod, Nat.reduceDiv, jx_cl9_i, xe_icmp_ne, xi_1, xx_1, xe_goto, xe_iadd, xk_iinc, ak_C, xe_max, xe_ireturn, jx_s1, List.set_cons_zero, List.set_cons_succ, jx_2_i, jx_2_l, jx_2_r, jx_2_n, jx_2_u, jx_2_s, jx_2_q, jx_k_i, jx_k_l, jx_k_r, jx_k_n, jx_k_u, jx_k_s, jx_k_q, sw_r, sw_f, sw_s, sw_wo, sw_ro, sw_rp, sw_woo, sw_wor, sw_wpo, sw_wpr, cq_f, cq_s, va_up_s, va_rf_s, va_rf_n, eF, h4, i1, hP, hh, hf, sp_10, nI_1]
        · have e1 : ¬ (P u && decide (f u v = nI m - 1)) = true := by
            rw [Bool.and_eq_true]; exact fun c => r2 (of_decide_eq_true c.2)
          rw [if_neg e1]
          simp only [eb_47_57, eb_47_58, jx_ns_r, jx_ns_n, jx_ns_q, jx_ns_i, jx_gl_0, jx_gl_s, if_true, if_false, ite_true, ite_false, eq_self, Bool.false_eq_true, List.length_cons, List.length_nil, Nat.zero_le, Nat.reduceAdd, Nat.reduceSub, Nat.reduceLeDiff, Nat.reduceLT, Nat.reduceEqDiff, Int.reduceToNat, reduceIte, xe_iconst, xi_0, xx_0, xe_istore, xi_m1, xe_goto_w, xk_iload, jx_iv_i, ak_I, xe_aload, jx_rv_r, jx_rv_n, jx_rv_q, xk_getf, jx_gf_i, jx_ov_s, ak_V, xe_icmp_ge, xe_icmp_gt, xk_bald, ja_ba, ak_A, true_or, or_true, xe_ifeq, xe_inv2, jx_cc_i, jx_cc_v, Nat.reduceMod, Nat.reduceDiv, jx_cl9_i, xe_icmp_ne, xi_1, xx_1, xe_goto, xe_iadd, xk_iinc, ak_C, xe_max, xe_ireturn, jx_s1, List.set_cons_zero, List.set_cons_succ, jx_2_i, jx_2_l, jx_2_r, jx_2_n, jx_2_u, jx_2_s, jx_2_q, jx_k_i, jx_k_l, jx_k_r, jx_k_n, jx_k_u, jx_k_s, jx_k_q, sw_r, sw_f, sw_s, sw_wo, sw_ro, sw_rp, sw_woo, sw_wor, sw_wpo, sw_wpr, cq_f, cq_s, va_up_s, va_rf_s, va_rf_n, eF, h4, i1, hP, hh, hf, r2, sp_10, nI_1]
      · rw [sp_bl_f r] at hP
        have e1 : ¬ (P u && decide (f u v = nI m - 1)) = true := by
          rw [Bool.and_eq_true]; exact fun c => r c.1
        rw [if_neg e1]
        simp only [eb_47_57, eb_47_58, jx_ns_r, jx_ns_n, jx_ns_q, jx_ns_i, jx_gl_0, jx_gl_s, if_true, if_false, ite_true, ite_false, eq_self, Bool.false_eq_true, List.length_cons, List.length_nil, Nat.zero_le, Nat.reduceAdd, Nat.reduceSub, Nat.reduceLeDiff, Nat.reduceLT, Nat.reduceEqDiff, Int.reduceToNat, reduceIte, xe_iconst, xi_0, xx_0, xe_istore, xi_m1, xe_goto_w, xk_iload, jx_iv_i, ak_I, xe_aload, jx_rv_r, jx_rv_n, jx_rv_q, xk_getf, jx_gf_i, jx_ov_s, ak_V, xe_icmp_ge, xe_icmp_gt, xk_bald, ja_ba, ak_A, true_or, or_true, xe_ifeq, xe_inv2, jx_cc_i, jx_cc_v, Nat.reduceMod, Nat.reduceDiv, jx_cl9_i, xe_icmp_ne, xi_1, xx_1, xe_goto, xe_iadd, xk_iinc, ak_C, xe_max, xe_ireturn, jx_s1, List.set_cons_zero, List.set_cons_succ, jx_2_i, jx_2_l, jx_2_r, jx_2_n, jx_2_u, jx_2_s, jx_2_q, jx_k_i, jx_k_l, jx_k_r, jx_k_n, jx_k_u, jx_k_s, jx_k_q, sw_r, sw_f, sw_s, sw_wo, sw_ro, sw_rp, sw_woo, sw_wor, sw_wpo, sw_wpr, cq_f, cq_s, va_up_s, va_rf_s, va_rf_n, eF, h4, i1, hP, nI_1]
    · intro _ _
      have h4 : nI rm < nI (rm + 1) := nI_lt (by omega) (by omega)
      simp only [eb_47_21, jx_ns_r, jx_ns_n, jx_ns_q, jx_ns_i, jx_gl_0, jx_gl_s, if_true, if_false, ite_true, ite_false, eq_self, Bool.false_eq_true, List.length_cons, List.length_nil, Nat.zero_le, Nat.reduceAdd, Nat.reduceSub, Nat.reduceLeDiff, Nat.reduceLT, Nat.reduceEqDiff, Int.reduceToNat, reduceIte, xe_iconst, xi_0, xx_0, xe_istore, xi_m1, xe_goto_w, xk_iload, jx_iv_i, ak_I, xe_aload, jx_rv_r, jx_rv_n, jx_rv_q, xk_getf, jx_gf_i, jx_ov_s, ak_V, xe_icmp_ge, xe_icmp_gt, xk_bald, ja_ba, ak_A, true_or, or_true, xe_ifeq, xe_inv2, jx_cc_i, jx_cc_v, Nat.reduceMod, Nat.reduceDiv, jx_cl9_i, xe_icmp_ne, xi_1, xx_1, xe_goto, xe_iadd, xk_iinc, ak_C, xe_max, xe_ireturn, jx_s1, List.set_cons_zero, List.set_cons_succ, jx_2_i, jx_2_l, jx_2_r, jx_2_n, jx_2_u, jx_2_s, jx_2_q, jx_k_i, jx_k_l, jx_k_r, jx_k_n, jx_k_u, jx_k_s, jx_k_q, sw_r, sw_f, sw_s, sw_wo, sw_ro, sw_rp, sw_woo, sw_wor, sw_wpo, sw_wpr, cq_f, cq_s, va_up_s, va_rf_s, va_rf_n, eF, h4]
  · intro g hg
    have h3 : nI tm ≤ nI (tm + 1) - 1 := by
      rw [← nI_1, Int32.add_sub_cancel]
      exact (nI_leI (by omega) (by omega)).mpr (Nat.le_refl _)
    simp only [sp_ai, eb_47_4, eb_47_80, jx_ns_r, jx_ns_n, jx_ns_q, jx_ns_i, jx_gl_0, jx_gl_s, if_true, if_false, ite_true, ite_false, eq_self, Bool.false_eq_true, List.length_cons, List.length_nil, Nat.zero_le, Nat.reduceAdd, Nat.reduceSub, Nat.reduceLeDiff, Nat.reduceLT, Nat.reduceEqDiff, Int.reduceToNat, reduceIte, xe_iconst, xi_0, xx_0, xe_istore, xi_m1, xe_goto_w, xk_iload, jx_iv_i, ak_I, xe_aload, jx_rv_r, jx_rv_n, jx_rv_q, xk_getf, jx_gf_i, jx_ov_s, ak_V, xe_icmp_ge, xe_icmp_gt, xk_bald, ja_ba, ak_A, true_or, or_true, xe_ifeq, xe_inv2, jx_cc_i, jx_cc_v, Nat.reduceMod, Nat.reduceDiv, jx_cl9_i, xe_icmp_ne, xi_1, xx_1, xe_goto, xe_iadd, xk_iinc, ak_C, xe_max, xe_ireturn, jx_s1, List.set_cons_zero, List.set_cons_succ, jx_2_i, jx_2_l, jx_2_r, jx_2_n, jx_2_u, jx_2_s, jx_2_q, jx_k_i, jx_k_l, jx_k_r, jx_k_n, jx_k_u, jx_k_s, jx_k_q, sw_r, sw_f, sw_s, sw_wo, sw_ro, sw_rp, sw_woo, sw_wor, sw_wpo, sw_wpr, cq_f, cq_s, va_up_s, va_rf_s, va_rf_n, et, h3]
theorem sc_look0 : jx_cr (d + 2) 48 [.ref 48, .int i] (sw h none F o p q z T x ru im tp R) = some (.inl (some (.int (-1))), (sw h none F o p q z T x ru im tp R)) := by
  simp only [cr_48, eb_48_0, eb_48_17, jx_ns_r, jx_ns_n, jx_ns_q, jx_ns_i, jx_gl_0, jx_gl_s, if_true, if_false, ite_true, ite_false, eq_self, Bool.false_eq_true, List.length_cons, List.length_nil, Nat.zero_le, Nat.reduceAdd, Nat.reduceSub, Nat.reduceLeDiff, Nat.reduceLT, Nat.reduceEqDiff, Int.reduceToNat, reduceIte, xe_aload, jx_rv_r, jx_rv_n, jx_rv_q, xk_getf, jx_gf_i, jx_ov_s, ak_V, xe_ifnull_n, xe_ifnull_r, xk_iload, jx_iv_i, ak_I, xe_i2l, xe_lconst, xl_0, xl_1, xe_sta3, jx_cc_i, jx_cc_v, Nat.reduceMod, Nat.reduceDiv, xe_ifne, xe_goto_w, xe_iconst, xi_m1, xe_ireturn, xe_inv0, jx_cl9_i, xi_0, xx_0, xe_istore, xi_1, xx_1, xi_60, xe_icmp_gt, xe_inv1, xe_icmp_ge, xk_iinc, ak_C, xe_goto, xi_m2, jx_s1, List.set_cons_zero, List.set_cons_succ, jx_2_i, jx_2_l, jx_2_r, jx_2_n, jx_2_u, jx_2_s, jx_2_q, jx_k_i, jx_k_l, jx_k_r, jx_k_n, jx_k_u, jx_k_s, jx_k_q, sw_r, sw_f, sw_s, sw_wo, sw_ro, sw_rp, sw_woo, sw_wor, sw_wpo, sw_wpr, cq_f, cq_s, va_up_s, va_rf_s, va_rf_n]
theorem sc_look1 (hq : ¬ (0 ≤ i.toInt64 ∧ i.toInt64 ≤ 1)) : jx_cr (d + 2) 48 [.ref 48, .int i] (sw h (some 49) F (s, a, w) p q z T x ru im tp R) = some (.inl (some (.int (-1))), (sw h (some 49) F (s, a, w) p q z T x ru im tp R)) := by
  simp only [cr_48, eb_48_0, eb_48_17, jx_ns_r, jx_ns_n, jx_ns_q, jx_ns_i, jx_gl_0, jx_gl_s, if_true, if_false, ite_true, ite_false, eq_self, Bool.false_eq_true, List.length_cons, List.length_nil, Nat.zero_le, Nat.reduceAdd, Nat.reduceSub, Nat.reduceLeDiff, Nat.reduceLT, Nat.reduceEqDiff, Int.reduceToNat, reduceIte, xe_aload, jx_rv_r, jx_rv_n, jx_rv_q, xk_getf, jx_gf_i, jx_ov_s, ak_V, xe_ifnull_n, xe_ifnull_r, xk_iload, jx_iv_i, ak_I, xe_i2l, xe_lconst, xl_0, xl_1, xe_sta3, jx_cc_i, jx_cc_v, Nat.reduceMod, Nat.reduceDiv, xe_ifne, xe_goto_w, xe_iconst, xi_m1, xe_ireturn, xe_inv0, jx_cl9_i, xi_0, xx_0, xe_istore, xi_1, xx_1, xi_60, xe_icmp_gt, xe_inv1, xe_icmp_ge, xk_iinc, ak_C, xe_goto, xi_m2, jx_s1, List.set_cons_zero, List.set_cons_succ, jx_2_i, jx_2_l, jx_2_r, jx_2_n, jx_2_u, jx_2_s, jx_2_q, jx_k_i, jx_k_l, jx_k_r, jx_k_n, jx_k_u, jx_k_s, jx_k_q, sw_r, sw_f, sw_s, sw_wo, sw_ro, sw_rp, sw_woo, sw_wor, sw_wpo, sw_wpr, cq_f, cq_s, va_up_s, va_rf_s, va_rf_n, cq_inL, hq]
theorem sc_look (iv : cq_iv s a day tm pm now) (hN : sp_nt s a nm) (hR : sp_rs (D + 2) h ru Lr rm) (eF : F 14 = nI rm) (hk : 0 ≤ k.toInt64 ∧ k.toInt64 ≤ 1) :
    ∃ p' R', jx_cr (d + D + 8) 48 [.ref 48, .int k] (sw h (some 49) F (s, a, w) (ps, pa, pw) q z T x ru im tp R) = some (.inl (some (.int (sp_lkv (sp_ai (sp_fit Lr s a nm) (sp_hk Lr s a) rm tm) k))), sw h (some 49) F (s, a, w) p' q z T x ru im tp R') := by
  have t6 := iv.2.2.2.2.1; have p6 := iv.2.2.2.2.2.2.1; have es := iv.2.2.2.2.2.1; have et := iv.2.2.2.1; have d12 := iv.2.2.1; have d1 := iv.2.1
  obtain ⟨p', R', h1, h2, e⟩ := sp_gathers (d := d) (F := F) (w := w) (q := q) (z := z) (T := T) (x := x) (im := im) (tp := tp) (R := R) (ps := ps) (pa := pa) (pw := pw) iv hN hR eF
  have hA := fun (d v : Nat) (hv : v ≤ 60) => sp_alikeIn (d := d) (h := h) (F := F) (s := s) (a := a) (w := w) (p := p') (q := q) (z := z) (T := T) (x := x) (ru := ru) (im := im) (tp := tp) (R := R') hR.1 hv t6 et eF h1 h2
  generalize sp_ai (sp_fit Lr s a nm) (sp_hk Lr s a) rm tm = f at hA
  have key := jx_lp (d := d + D + 7) (y := 48) (L := 27) (n := 60) (γ := Unit) (ls := fun m _ => [.ref 48, .int k, .int (nI (sp_lkb f m)), .int (nI (m + 1))]) (H := fun _ _ => sw h (some 49) F (s, a, w) p' q z T x ru im tp R')
    (I := fun _ _ => True)
    (G := fun r => r = some (.inl (some (.int (sp_lkv f k))), sw h (some 49) F (s, a, w) p' q z T x ru im tp R')) ?_ ?_ 60 0 () (by omega) trivial
  · refine ⟨p', R', ?_⟩
    have e1 : nI (0 + 1) = 1 := rfl
    simp only [sp_lkb, nI_0, e1] at key
    simp only [cr_48, eb_48_0, eb_48_19, jx_ns_r, jx_ns_n, jx_ns_q, jx_ns_i, jx_gl_0, jx_gl_s, if_true, if_false, ite_true, ite_false, eq_self, Bool.false_eq_true, List.length_cons, List.length_nil, Nat.zero_le, Nat.reduceAdd, Nat.reduceSub, Nat.reduceLeDiff, Nat.reduceLT, Nat.reduceEqDiff, Int.reduceToNat, reduceIte, xe_aload, jx_rv_r, jx_rv_n, jx_rv_q, xk_getf, jx_gf_i, jx_ov_s, ak_V, xe_ifnull_n, xe_ifnull_r, xk_iload, jx_iv_i, ak_I, xe_i2l, xe_lconst, xl_0, xl_1, xe_sta3, jx_cc_i, jx_cc_v, Nat.reduceMod, Nat.reduceDiv, xe_ifne, xe_goto_w, xe_iconst, xi_m1, xe_ireturn, xe_inv0, jx_cl9_i, xi_0, xx_0, xe_istore, xi_1, xx_1, xi_60, xe_icmp_gt, xe_inv1, xe_icmp_ge, xk_iinc, ak_C, xe_goto, xi_m2, jx_s1, List.set_cons_zero, List.set_cons_succ, jx_2_i, jx_2_l, jx_2_r, jx_2_n, jx_2_u, jx_2_s, jx_2_q, jx_k_i, jx_k_l, jx_k_r, jx_k_n, jx_k_u, jx_k_s, jx_k_q, sw_r, sw_f, sw_s, sw_wo, sw_ro, sw_rp, sw_woo, sw_wor, sw_wpo, sw_wpr, cq_f, cq_s, va_up_s, va_rf_s, va_rf_n, cq_inL, hk, and_self, sp_10, e]
    exact key
  · intro m _ hm _
    have h3 : ¬ (60 : Int32) < nI (m + 1) := nI_nlt (b := m + 1) (a := 60) (by omega) (by omega)
    have l := sp_lkb_le (f := f) m
    have h4 := fun d => hA d (m + 1) (by omega)
    have h5 := fun d => hA d (sp_lkb f m) (by omega)
    refine .inr ⟨(), trivial, ?_⟩
    rw [eb_48_27]
    by_cases r : f (m + 1) < f (sp_lkb f m)
    · have r' : ¬ f (sp_lkb f m) ≤ f (m + 1) := Int32.not_le.mpr r
      simp only [eb_48_48, jx_ns_r, jx_ns_n, jx_ns_q, jx_ns_i, jx_gl_0, jx_gl_s, if_true, if_false, ite_true, ite_false, eq_self, Bool.false_eq_true, List.length_cons, List.length_nil, Nat.zero_le, Nat.reduceAdd, Nat.reduceSub, Nat.reduceLeDiff, Nat.reduceLT, Nat.reduceEqDiff, Int.reduceToNat, reduceIte, xe_aload, jx_rv_r, jx_rv_n, jx_rv_q, xk_getf, jx_gf_i, jx_ov_s, ak_V, xe_ifnull_n, xe_ifnull_r, xk_iload, jx_iv_i, ak_I, xe_i2l, xe_lconst, xl_0, xl_1, xe_sta3, jx_cc_i, jx_cc_v, Nat.reduceMod, Nat.reduceDiv, xe_ifne, xe_goto_w, xe_iconst, xi_m1, xe_ireturn, xe_inv0, jx_cl9_i, xi_0, xx_0, xe_istore, xi_1, xx_1, xi_60, xe_icmp_gt, xe_inv1, xe_icmp_ge, xk_iinc, ak_C, xe_goto, xi_m2, jx_s1, List.set_cons_zero, List.set_cons_succ, jx_2_i, jx_2_l, jx_2_r, jx_2_n, jx_2_u, jx_2_s, jx_2_q, jx_k_i, jx_k_l, jx_k_r, jx_k_n, jx_k_u, jx_k_s, jx_k_q, h3, sw_r, sw_f, sw_s, sw_wo, sw_ro, sw_rp, sw_woo, sw_wor, sw_wpo, sw_wpr, cq_f, cq_s, va_up_s, va_rf_s, va_rf_n, h4, h5, r, r', sp_lkb, nI_1]
    · have r' : f (sp_lkb f m) ≤ f (m + 1) := Int32.not_lt.mp r
      simp only [eb_48_48, jx_ns_r, jx_ns_n, jx_ns_q, jx_ns_i, jx_gl_0, jx_gl_s, if_true, if_false, ite_true, ite_false, eq_self, Bool.false_eq_true, List.length_cons, List.length_nil, Nat.zero_le, Nat.reduceAdd, Nat.reduceSub, Nat.reduceLeDiff, Nat.reduceLT, Nat.reduceEqDiff, Int.reduceToNat, reduceIte, xe_aload, jx_rv_r, jx_rv_n, jx_rv_q, xk_getf, jx_gf_i, jx_ov_s, ak_V, xe_ifnull_n, xe_ifnull_r, xk_iload, jx_iv_i, ak_I, xe_i2l, xe_lconst, xl_0, xl_1, xe_sta3, jx_cc_i, jx_cc_v, Nat.reduceMod, Nat.reduceDiv, xe_ifne, xe_goto_w, xe_iconst, xi_m1, xe_ireturn, xe_inv0, jx_cl9_i, xi_0, xx_0, xe_istore, xi_1, xx_1, xi_60, xe_icmp_gt, xe_inv1, xe_icmp_ge, xk_iinc, ak_C, xe_goto, xi_m2, jx_s1, List.set_cons_zero, List.set_cons_succ, jx_2_i, jx_2_l, jx_2_r, jx_2_n, jx_2_u, jx_2_s, jx_2_q, jx_k_i, jx_k_l, jx_k_r, jx_k_n, jx_k_u, jx_k_s, jx_k_q, h3, sw_r, sw_f, sw_s, sw_wo, sw_ro, sw_rp, sw_woo, sw_wor, sw_wpo, sw_wpr, cq_f, cq_s, va_up_s, va_rf_s, va_rf_n, h4, h5, r, r', sp_lkb, nI_1]
  · intro _ _
    have h3 : (60 : Int32) < nI (60 + 1) := by decide
    have l := sp_lkb_le (f := f) 60
    have h5 := fun d => hA d (sp_lkb f 60) l
    by_cases r : f (sp_lkb f 60) = 0
    · simp only [eb_48_27, eb_48_54, eb_48_80, jx_ns_r, jx_ns_n, jx_ns_q, jx_ns_i, jx_gl_0, jx_gl_s, if_true, if_false, ite_true, ite_false, eq_self, Bool.false_eq_true, List.length_cons, List.length_nil, Nat.zero_le, Nat.reduceAdd, Nat.reduceSub, Nat.reduceLeDiff, Nat.reduceLT, Nat.reduceEqDiff, Int.reduceToNat, reduceIte, xe_aload, jx_rv_r, jx_rv_n, jx_rv_q, xk_getf, jx_gf_i, jx_ov_s, ak_V, xe_ifnull_n, xe_ifnull_r, xk_iload, jx_iv_i, ak_I, xe_i2l, xe_lconst, xl_0, xl_1, xe_sta3, jx_cc_i, jx_cc_v, Nat.reduceMod, Nat.reduceDiv, xe_ifne, xe_goto_w, xe_iconst, xi_m1, xe_ireturn, xe_inv0, jx_cl9_i, xi_0, xx_0, xe_istore, xi_1, xx_1, xi_60, xe_icmp_gt, xe_inv1, xe_icmp_ge, xk_iinc, ak_C, xe_goto, xi_m2, jx_s1, List.set_cons_zero, List.set_cons_succ, jx_2_i, jx_2_l, jx_2_r, jx_2_n, jx_2_u, jx_2_s, jx_2_q, jx_k_i, jx_k_l, jx_k_r, jx_k_n, jx_k_u, jx_k_s, jx_k_q, h3, sw_r, sw_f, sw_s, sw_wo, sw_ro, sw_rp, sw_woo, sw_wor, sw_wpo, sw_wpr, cq_f, cq_s, va_up_s, va_rf_s, va_rf_n, h5, r, sp_lkv]
    · by_cases r2 : k = 0 <;> simp only [eb_48_27, eb_48_54, eb_48_67, eb_48_75, eb_48_80, jx_ns_r, jx_ns_n, jx_ns_q, jx_ns_i, jx_gl_0, jx_gl_s, if_true, if_false, ite_true, ite_false, eq_self, Bool.false_eq_true, List.length_cons, List.length_nil, Nat.zero_le, Nat.reduceAdd, Nat.reduceSub, Nat.reduceLeDiff, Nat.reduceLT, Nat.reduceEqDiff, Int.reduceToNat, reduceIte, xe_aload, jx_rv_r, jx_rv_n, jx_rv_q, xk_getf, jx_gf_i, jx_ov_s, ak_V, xe_ifnull_n, xe_ifnull_r, xk_iload, jx_iv_i, ak_I, xe_i2l, xe_lconst, xl_0, xl_1, xe_sta3, jx_cc_i, jx_cc_v, Nat.reduceMod, Nat.reduceDiv, xe_ifne, xe_goto_w, xe_iconst, xi_m1, xe_ireturn, xe_inv0, jx_cl9_i, xi_0, xx_0, xe_istore, xi_1, xx_1, xi_60, xe_icmp_gt, xe_inv1, xe_icmp_ge, xk_iinc, ak_C, xe_goto, xi_m2, jx_s1, List.set_cons_zero, List.set_cons_succ, jx_2_i, jx_2_l, jx_2_r, jx_2_n, jx_2_u, jx_2_s, jx_2_q, jx_k_i, jx_k_l, jx_k_r, jx_k_n, jx_k_u, jx_k_s, jx_k_q, h3, sw_r, sw_f, sw_s, sw_wo, sw_ro, sw_rp, sw_woo, sw_wor, sw_wpo, sw_wpr, cq_f, cq_s, va_up_s, va_rf_s, va_rf_n, h5, r, r2, sp_lkv]
end SU
