/-! SpoonCourt: draw, dubsByDraw, years -/
set_option maxRecDepth 100000
def sp_dx (n : Nat) : Nat := (n * 1103515245 + 12345) % 2147483648
def sp_dr (n m : Nat) : Nat := sp_dx n / 65536 % m
/-- an hour with its draws: what comes of it -/
def sp_dy (Lo : Option ((Nat → Int64) → Int64)) (tm : Nat) (k : Int32) (X : Nat) (y : (Nat → Int32) × (Nat → Nat → Int32)) : Int32 × Nat × (Nat → Int32) × (Nat → Nat → Int32) :=
  let b := decide (nI (sp_dr X 100) < k) && decide (0 < tm)
  let X' := if b = true then sp_dx (sp_dx X) else sp_dx X
  let y' := if b = true then (va_up y.1 9 (nI (sp_dr (sp_dx X) tm)), y.2) else y
  (if (cq_go Lo y').1 8 = -1 then 0 else cq_bc (cq_ws y'.1 y'.2), X', cq_go Lo y')
/-- n such hours: dubs, draw, court -/
def sp_dn (Lo : Option ((Nat → Int64) → Int64)) (tm : Nat) (k : Int32) : Nat → Int32 → Nat → (Nat → Int32) × (Nat → Nat → Int32) → Int32 × Nat × (Nat → Int32) × (Nat → Nat → Int32)
  | 0, m, X, y => (m, X, y)
  | n + 1, m, X, y => sp_dn Lo tm k n (m + (sp_dy Lo tm k X y).1) (sp_dy Lo tm k X y).2.1 (sp_dy Lo tm k X y).2.2
/-- u times n hours from the court as it is: dubs, ranks, draw -/
def sp_yr (Lo : Option ((Nat → Int64) → Int64)) (s : Nat → Int32) (a : Nat → Nat → Int32) (tm pm : Nat) (k : Int32) (n : Nat) (X : Nat) : Nat → Int32 × Int32 × Nat
  | 0 => (0, 0, X)
  | u + 1 =>
    let r := sp_yr Lo s a tm pm k n X u
    let g := sp_dn Lo tm k n r.1 r.2.2 (s, a)
    (g.1, r.2.1 + cq_ra (g.2.2.2 8) (a 0) tm pm, g.2.1)
theorem sp_dxe {n : Nat} (h : n < 2 ^ 31) : ((nI n).toInt64 * 1103515245 + 12345 - ((nI n).toInt64 * 1103515245 + 12345) / 2147483648 * 2147483648).toInt32 = nI (sp_dx n) := by
  rw [nI_l h, show (1103515245 : Int64) = lN 1103515245 from rfl, lN_mul, show (12345 : Int64) = lN 12345 from rfl, lN_add, show (2147483648 : Int64) = lN 2147483648 from rfl, pk_lRem (by omega) (by omega) (by omega), lN_i]
  rfl
theorem sp_dx_lt {n : Nat} : sp_dx n < 2 ^ 31 := Nat.mod_lt _ (by decide)
theorem sp_dre {n m : Nat} (h0 : 0 < m) (hm : m < 2 ^ 31) : nI (sp_dx n) / 65536 - nI (sp_dx n) / 65536 / nI m * nI m = nI (sp_dr n m) := by
  have := sp_dx_lt (n := n)
  rw [show (65536 : Int32) = nI 65536 from rfl, pk_div this (by omega) (by omega), pk_rem (by omega) h0 hm]
  rfl
section SV9
variable {d : Nat} {h : jx_H} {cu : Option Nat} {F : Nat → Int32} {o p q z : cq_C} {T : List Value} {x : Int32 × Int32} {ru im : Nat → Option Nat} {tp : Nat → Int32} {R : Nat → Nat → Int32} {s : Nat → Int32} {a : Nat → Nat → Int32} {w : Nat → Int64}
variable {i k : Int32} {t tm pm day um now D n : Nat} {lo : Option Nat} {Lo : Option ((Nat → Int64) → Int64)} {ps : Nat → Int32} {pa : Nat → Nat → Int32} {pw : Nat → Int64}
variable {u v X : Nat}
theorem sp_draw (hX : X < 2 ^ 31) (eF : F 20 = nI X) {m : Nat} (h0 : 0 < m) (hm : m ≤ 100) : jx_cr (d + 1) 50 [.ref 48, .int (nI m)] (sw h cu F o p q z T x ru im tp R) = some (.inl (some (.int (nI (sp_dr X m)))), sw h cu (va_up F 20 (nI (sp_dx X))) o p q z T x ru im tp R) := by
  have e1 := sp_dxe hX
  have e2 := sp_dre (n := X) h0 (by omega)
  have n0 : ¬ nI m = 0 := nI_ne0 h0 (by omega)
  have n1 : ¬ (65536 : Int32) = 0 := by decide
  have n2 : ¬ (2147483648 : Int64) = 0 := by decide
  simp only [cr_50, eb_50_0, jx_ns_r, jx_ns_n, jx_ns_q, jx_ns_i, jx_gl_0, jx_gl_s, if_true, if_false, ite_true, ite_false, eq_self, Bool.false_eq_true, List.length_cons, List.length_nil, Nat.zero_le, Nat.reduceAdd, Nat.reduceSub, Nat.reduceLeDiff, Nat.reduceLT, Nat.reduceEqDiff, Int.reduceToNat, reduceIte, xe_aload, jx_rv_r, jx_rv_n, jx_rv_q, xk_getf, jx_gf_i, jx_ov_s, ak_V, xe_i2l, xe_lconst, xl_1103515245, xe_lmul, xl_12345, xe_ladd, xl_2147483648, xe_lrem, xe_l2i, xk_putf, ak_P, jx_pf_i, jx_pf_z, jx_pf_l, jx_pf_r, jx_pf_n, jx_pf_q, Nat.reduceMod, Nat.reduceDiv, xe_iconst, xi_65536, xe_idiv, xk_iload, jx_iv_i, ak_I, xe_irem, xe_ireturn, sw_r, sw_f, sw_s, sw_wo, sw_ro, sw_rp, sw_woo, sw_wor, sw_wpo, sw_wpr, cq_f, cq_s, va_up_s, va_rf_s, va_rf_n, eF, n0, n1, n2, e1, e2]
theorem sp_dubsByDraw (iv : cq_iv ps pa day tm pm now) (hn : now < 2 ^ 30) (hX : X < 2 ^ 31) (eF : F 20 = nI X) (ets : s 2 = nI tm) (hlo : sp_lo F ru lo) (hL : sp_lw (D + 2) h lo Lo) :
    ∃ w', jx_cr (d + D + 6) 51 [.ref 48, .int k] (sw h (some 49) F (s, a, w) (ps, pa, pw) q z T x ru im tp R) = some (.inl (some (.int (sp_dy Lo tm k X (ps, pa)).1)), sw h (some 49) (va_up F 20 (nI (sp_dy Lo tm k X (ps, pa)).2.1)) (s, a, w) ((sp_dy Lo tm k X (ps, pa)).2.2.1, (sp_dy Lo tm k X (ps, pa)).2.2.2, w') q z T x ru im tp R) := by
  have t6 := iv.2.2.2.2.1; have p6 := iv.2.2.2.2.2.2.1; have es := iv.2.2.2.2.2.1; have et := iv.2.2.2.1; have d12 := iv.2.2.1; have d1 := iv.2.1
  have e100 : (100 : Int32) = nI 100 := rfl
  have dxl := sp_dx_lt (n := X)
  have bc := fun (d : Nat) (v : Int32) (H : jx_H) => cq_bitCount (d := d) (x := v) (h := H)
  have d1 := fun (d : Nat) (p : cq_C) => sp_draw (d := d) (h := h) (cu := some 49) (F := F) (o := (s, a, w)) (p := p) (q := q) (z := z) (T := T) (x := x) (ru := ru) (im := im) (tp := tp) (R := R) hX eF (m := 100) (by omega) (by omega)
  have hl := fun (d : Nat) (X : Nat) (p : cq_C) => sc_law (d := d) (h := h) (cu := some 49) (F := va_up F 20 (nI X)) (o := (s, a, w)) (p := p) (q := q) (z := z) (T := T) (x := x) (ru := ru) (im := im) (tp := tp) (R := R) (lo := lo) (by cases lo with | none => exact hlo | some r => exact hlo)
  by_cases r1 : nI (sp_dr X 100) < k
  · by_cases r2 : 0 < tm
    · have r2' : ¬ nI tm ≤ 0 := nI_nle r2 (by omega)
      have r1' : ¬ k ≤ nI (sp_dr X 100) := Int32.not_le.mpr r1
      have d2 := fun (d : Nat) (p : cq_C) => sp_draw (d := d) (h := h) (cu := some 49) (F := va_up F 20 (nI (sp_dx X))) (o := (s, a, w)) (p := p) (q := q) (z := z) (T := T) (x := x) (ru := ru) (im := im) (tp := tp) (R := R) dxl rfl (m := tm) r2 (by omega)
      have eFF : ∀ u v : Int32, va_up (va_up F 20 u) 20 v = va_up F 20 v := by
        intro f g
        funext j
        simp only [va_up]
        by_cases j1 : j = 20
        · rw [if_pos j1, if_pos j1]
        · rw [if_neg j1, if_neg j1, if_neg j1]
      have hlt : sp_dr (sp_dx X) tm < tm := Nat.mod_lt _ r2
      obtain ⟨w1, e1⟩ := sp_hour (d := d) (cu := some 49) (F := va_up F 20 (nI (sp_dx (sp_dx X)))) (o := (s, a, w)) (q := q) (z := z) (T := T) (x := x) (ru := ru) (im := im) (tp := tp) (R := R) (pw := pw) (cq_iv_9 iv (.inr ⟨_, hlt, rfl⟩)) (by omega) hL
      refine ⟨w1, ?_⟩
      have eb : (decide (nI (sp_dr X 100) < k) && decide (0 < tm)) = true := by rw [decide_eq_true r1, decide_eq_true r2]; rfl
      by_cases r3 : (cq_go Lo (va_up ps 9 (nI (sp_dr (sp_dx X) tm)), pa)).1 8 = -1 <;>
        simp only [cr_51, eb_51_0, eb_51_24, eb_51_25, eb_51_48, eb_51_75, eb_51_79, jx_ns_r, jx_ns_n, jx_ns_q, jx_ns_i, jx_gl_0, jx_gl_s, if_true, if_false, ite_true, ite_false, eq_self, Bool.false_eq_true, List.length_cons, List.length_nil, Nat.zero_le, Nat.reduceAdd, Nat.reduceSub, Nat.reduceLeDiff, Nat.reduceLT, Nat.reduceEqDiff, Int.reduceToNat, reduceIte, xe_aload, jx_rv_r, jx_rv_n, jx_rv_q, xe_iconst, xi_100, xe_inv1, jx_cc_i, jx_cc_v, Nat.reduceMod, Nat.reduceDiv, jx_cl9_i, xk_iload, jx_iv_i, ak_I, xe_icmp_ge, xk_getf, jx_gf_i, jx_ov_s, ak_V, xe_ifle, xi_1, xx_1, xe_goto, xi_0, xx_0, xe_goto_w, xe_istore, xe_ifeq, xk_putf, ak_P, jx_pf_i, jx_pf_z, jx_pf_l, jx_pf_r, jx_pf_n, jx_pf_q, xe_inv0, xi_m1, xe_icmp_ne, xe_sta1, xe_ireturn, jx_s1, List.set_cons_zero, List.set_cons_succ, jx_2_i, jx_2_l, jx_2_r, jx_2_n, jx_2_u, jx_2_s, jx_2_q, jx_k_i, jx_k_l, jx_k_r, jx_k_n, jx_k_u, jx_k_s, jx_k_q, sw_r, sw_f, sw_s, sw_wo, sw_ro, sw_rp, sw_woo, sw_wor, sw_wpo, sw_wpr, cq_f, cq_s, va_up_s, va_rf_s, va_rf_n, e100, d1, r1', r2', d2, ets, eFF, hl, e1, sp_dy, eb, r3, bc, sp_10]
    · have r2' : nI tm ≤ 0 := by rw [show tm = 0 by omega]; decide
      have r1' : ¬ k ≤ nI (sp_dr X 100) := Int32.not_le.mpr r1
      obtain ⟨w1, e1⟩ := sp_hour (d := d) (cu := some 49) (F := va_up F 20 (nI (sp_dx X))) (o := (s, a, w)) (q := q) (z := z) (T := T) (x := x) (ru := ru) (im := im) (tp := tp) (R := R) (pw := pw) iv (by omega) hL
      refine ⟨w1, ?_⟩
      have eb : ¬ (decide (nI (sp_dr X 100) < k) && decide (0 < tm)) = true := by rw [Bool.and_eq_true]; exact fun c => r2 (of_decide_eq_true c.2)
      by_cases r3 : (cq_go Lo (ps, pa)).1 8 = -1 <;>
        simp only [cr_51, eb_51_0, eb_51_24, eb_51_25, eb_51_48, eb_51_75, eb_51_79, jx_ns_r, jx_ns_n, jx_ns_q, jx_ns_i, jx_gl_0, jx_gl_s, if_true, if_false, ite_true, ite_false, eq_self, Bool.false_eq_true, List.length_cons, List.length_nil, Nat.zero_le, Nat.reduceAdd, Nat.reduceSub, Nat.reduceLeDiff, Nat.reduceLT, Nat.reduceEqDiff, Int.reduceToNat, reduceIte, xe_aload, jx_rv_r, jx_rv_n, jx_rv_q, xe_iconst, xi_100, xe_inv1, jx_cc_i, jx_cc_v, Nat.reduceMod, Nat.reduceDiv, jx_cl9_i, xk_iload, jx_iv_i, ak_I, xe_icmp_ge, xk_getf, jx_gf_i, jx_ov_s, ak_V, xe_ifle, xi_1, xx_1, xe_goto, xi_0, xx_0, xe_goto_w, xe_istore, xe_ifeq, xk_putf, ak_P, jx_pf_i, jx_pf_z, jx_pf_l, jx_pf_r, jx_pf_n, jx_pf_q, xe_inv0, xi_m1, xe_icmp_ne, xe_sta1, xe_ireturn, jx_s1, List.set_cons_zero, List.set_cons_succ, jx_2_i, jx_2_l, jx_2_r, jx_2_n, jx_2_u, jx_2_s, jx_2_q, jx_k_i, jx_k_l, jx_k_r, jx_k_n, jx_k_u, jx_k_s, jx_k_q, sw_r, sw_f, sw_s, sw_wo, sw_ro, sw_rp, sw_woo, sw_wor, sw_wpo, sw_wpr, cq_f, cq_s, va_up_s, va_rf_s, va_rf_n, e100, d1, r1', r2', ets, hl, e1, sp_dy, eb, r3, bc]
  · have r1' : k ≤ nI (sp_dr X 100) := Int32.not_lt.mp r1
    obtain ⟨w1, e1⟩ := sp_hour (d := d) (cu := some 49) (F := va_up F 20 (nI (sp_dx X))) (o := (s, a, w)) (q := q) (z := z) (T := T) (x := x) (ru := ru) (im := im) (tp := tp) (R := R) (pw := pw) iv (by omega) hL
    refine ⟨w1, ?_⟩
    have eb : ¬ (decide (nI (sp_dr X 100) < k) && decide (0 < tm)) = true := by rw [Bool.and_eq_true]; exact fun c => r1 (of_decide_eq_true c.1)
    by_cases r3 : (cq_go Lo (ps, pa)).1 8 = -1 <;>
      simp only [cr_51, eb_51_0, eb_51_24, eb_51_25, eb_51_48, eb_51_75, eb_51_79, jx_ns_r, jx_ns_n, jx_ns_q, jx_ns_i, jx_gl_0, jx_gl_s, if_true, if_false, ite_true, ite_false, eq_self, Bool.false_eq_true, List.length_cons, List.length_nil, Nat.zero_le, Nat.reduceAdd, Nat.reduceSub, Nat.reduceLeDiff, Nat.reduceLT, Nat.reduceEqDiff, Int.reduceToNat, reduceIte, xe_aload, jx_rv_r, jx_rv_n, jx_rv_q, xe_iconst, xi_100, xe_inv1, jx_cc_i, jx_cc_v, Nat.reduceMod, Nat.reduceDiv, jx_cl9_i, xk_iload, jx_iv_i, ak_I, xe_icmp_ge, xk_getf, jx_gf_i, jx_ov_s, ak_V, xe_ifle, xi_1, xx_1, xe_goto, xi_0, xx_0, xe_goto_w, xe_istore, xe_ifeq, xk_putf, ak_P, jx_pf_i, jx_pf_z, jx_pf_l, jx_pf_r, jx_pf_n, jx_pf_q, xe_inv0, xi_m1, xe_icmp_ne, xe_sta1, xe_ireturn, jx_s1, List.set_cons_zero, List.set_cons_succ, jx_2_i, jx_2_l, jx_2_r, jx_2_n, jx_2_u, jx_2_s, jx_2_q, jx_k_i, jx_k_l, jx_k_r, jx_k_n, jx_k_u, jx_k_s, jx_k_q, sw_r, sw_f, sw_s, sw_wo, sw_ro, sw_rp, sw_woo, sw_wor, sw_wpo, sw_wpr, cq_f, cq_s, va_up_s, va_rf_s, va_rf_n, e100, d1, r1', hl, e1, sp_dy, eb, r3, bc]
theorem sp_dr_pt {X tm : Nat} (h : 0 < tm) : cq_pt (nI (sp_dr X tm)) tm := .inr ⟨_, Nat.mod_lt _ h, rfl⟩
theorem sp_dy_c {s' : Nat → Int32} {a' : Nat → Nat → Int32} (iv : cq_iv s a day tm pm now) (hn : now < 2 ^ 30) (e : cq_eq tm pm day s s' a a') (hX : X < 2 ^ 31) :
    (sp_dy Lo tm k X (s, a)).1 = (sp_dy Lo tm k X (s', a')).1 ∧ (sp_dy Lo tm k X (s, a)).2.1 = (sp_dy Lo tm k X (s', a')).2.1 ∧ (sp_dy Lo tm k X (s, a)).2.1 < 2 ^ 31 ∧ cq_eq tm pm day (sp_dy Lo tm k X (s, a)).2.2.1 (sp_dy Lo tm k X (s', a')).2.2.1 (sp_dy Lo tm k X (s, a)).2.2.2 (sp_dy Lo tm k X (s', a')).2.2.2 ∧ cq_iv (sp_dy Lo tm k X (s, a)).2.2.1 (sp_dy Lo tm k X (s, a)).2.2.2 day tm pm (now + 1) := by
  by_cases eb : (decide (nI (sp_dr X 100) < k) && decide (0 < tm)) = true
  · have h0 : 0 < tm := of_decide_eq_true (Bool.and_eq_true _ _ ▸ eb).2
    have iv2 := cq_iv_9 iv (sp_dr_pt (X := sp_dx X) h0)
    have e2 := cq_eq_sc (j := 9) (k := nI (sp_dr (sp_dx X) tm)) e
    have g := cq_go_c (Lo := Lo) iv2 (by omega) e2
    simp only [sp_dy, eb, if_true]
    refine ⟨?_, trivial, sp_dx_lt, g, cq_iv_go iv2 (by omega)⟩
    rw [g.1 8 (by decide) (by decide) (by decide) (by decide), cq_ws_c iv2 e2]
  · have g := cq_go_c (Lo := Lo) iv (by omega) e
    simp only [sp_dy, eb, if_false, Bool.false_eq_true]
    refine ⟨?_, trivial, sp_dx_lt, g, cq_iv_go iv (by omega)⟩
    rw [g.1 8 (by decide) (by decide) (by decide) (by decide), cq_ws_c iv e]
theorem sp_dn_c : ∀ (n : Nat) (m : Int32) (X now : Nat) (s s' : Nat → Int32) (a a' : Nat → Nat → Int32), cq_iv s a day tm pm now → now + n < 2 ^ 30 → cq_eq tm pm day s s' a a' → X < 2 ^ 31 →
    (sp_dn Lo tm k n m X (s, a)).1 = (sp_dn Lo tm k n m X (s', a')).1 ∧ (sp_dn Lo tm k n m X (s, a)).2.1 = (sp_dn Lo tm k n m X (s', a')).2.1 ∧ (sp_dn Lo tm k n m X (s, a)).2.1 < 2 ^ 31 ∧ cq_eq tm pm day (sp_dn Lo tm k n m X (s, a)).2.2.1 (sp_dn Lo tm k n m X (s', a')).2.2.1 (sp_dn Lo tm k n m X (s, a)).2.2.2 (sp_dn Lo tm k n m X (s', a')).2.2.2 := by
  intro n
  induction n with
  | zero => intro m X now s s' a a' iv hn e hX; exact ⟨rfl, rfl, hX, e⟩
  | succ n ih =>
    intro m X now s s' a a' iv hn e hX
    obtain ⟨h1, h2, h3, h4, h5⟩ := sp_dy_c (Lo := Lo) (k := k) iv (by omega) e hX
    have := ih (m + (sp_dy Lo tm k X (s, a)).1) (sp_dy Lo tm k X (s, a)).2.1 (now + 1) _ _ _ _ h5 (by omega) h4 h3
    simp only [sp_dn]
    rw [← h1, ← h2]
    exact this
theorem sp_bs_dy (hb : sp_bs tm pm day s ps a pa) : sp_bs tm pm day s (sp_dy Lo tm k X (ps, pa)).2.2.1 a (sp_dy Lo tm k X (ps, pa)).2.2.2 := by
  by_cases eb : (decide (nI (sp_dr X 100) < k) && decide (0 < tm)) = true
  · simp only [sp_dy, eb, if_true]
    exact sp_bs_go (sp_bs_sc hb (by omega))
  · simp only [sp_dy, eb, if_false, Bool.false_eq_true]
    exact sp_bs_go hb
theorem sp_bs_dn : ∀ (n : Nat) (m : Int32) (X : Nat) (ps : Nat → Int32) (pa : Nat → Nat → Int32), sp_bs tm pm day s ps a pa → sp_bs tm pm day s (sp_dn Lo tm k n m X (ps, pa)).2.2.1 a (sp_dn Lo tm k n m X (ps, pa)).2.2.2 := by
  intro n
  induction n with
  | zero => intro m X ps pa hb; exact hb
  | succ n ih => intro m X ps pa hb; exact ih _ _ _ _ (sp_bs_dy hb)
end SV9
