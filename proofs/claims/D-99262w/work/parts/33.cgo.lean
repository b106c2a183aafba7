/-! court: what holds of a court, the hour as a function, goesOn -/
set_option maxRecDepth 100000
def cq_pt (x : Int32) (tm : Nat) : Prop := x = -1 ∨ ∃ t, t < tm ∧ x = nI t
def cq_iv (s : Nat → Int32) (a : Nat → Nat → Int32) (day tm pm now : Nat) : Prop :=
  s 0 = nI day ∧ 1 ≤ day ∧ day ≤ 12 ∧ s 2 = nI tm ∧ tm ≤ 6 ∧ s 3 = nI pm ∧ pm ≤ 6 ∧ s 7 = nI now ∧ cq_pt (s 8) tm ∧ cq_pt (s 9) tm ∧ (∃ g, g ≤ 9 ∧ s 10 = nI g) ∧ ∀ k, k < day → cq_pt (a 1 k) tm
/-- what is in hand -/
def cq_pk (Lo : Option ((Nat → Int64) → Int64)) (s : Nat → Int32) (a : Nat → Nat → Int32) : Int32 :=
  cq_ih s a Lo (s 2).toNatClampNeg (s 3).toNatClampNeg ((s 7).toNatClampNeg % (s 0).toNatClampNeg)
def cq_ws (s : Nat → Int32) (a : Nat → Nat → Int32) : Int32 := cq_who (cq_th a) (s 1) (s 3).toNatClampNeg
def cq_go (Lo : Option ((Nat → Int64) → Int64)) (x : (Nat → Int32) × (Nat → Nat → Int32)) : (Nat → Int32) × (Nat → Nat → Int32) :=
  (cq_pss x.1 (cq_pk Lo x.1 x.2), cq_psa x.1 x.2 (x.1 3).toNatClampNeg (cq_pk Lo x.1 x.2))
def cq_gn (Lo : Option ((Nat → Int64) → Int64)) : Nat → (Nat → Int32) × (Nat → Nat → Int32) → (Nat → Int32) × (Nat → Nat → Int32)
  | 0, x => x
  | n + 1, x => cq_go Lo (cq_gn Lo n x)
def cq_lw (D b : Nat) (h : jx_H) (lo : Option Nat) (Lo : Option ((Nat → Int64) → Int64)) : Prop :=
  match lo, Lo with
  | none, none => True
  | some r, some L => cq_law D r b h L
  | _, _ => False
theorem cq_pt_6 {x : Int32} {tm : Nat} (h : cq_pt x tm) (ht : tm ≤ 6) : x = -1 ∨ ∃ t, t < 6 ∧ x = nI t := by
  rcases h with h | ⟨t, h, e⟩
  · exact .inl h
  · exact .inr ⟨t, by omega, e⟩
theorem cq_bst_pt {f : Nat → Int64} {tm : Nat} : cq_pt (cq_bst f tm).1 tm := by
  induction tm with
  | zero => exact .inl rfl
  | succ n ih =>
    simp only [cq_bst]
    split
    · exact .inr ⟨n, by omega, rfl⟩
    · rcases ih with h | ⟨t, h, e⟩
      · exact .inl h
      · exact .inr ⟨t, by omega, e⟩
section CG
variable {d D n : Nat} {h : jx_H} {b day tm pm now : Nat} {s : Nat → Int32} {a : Nat → Nat → Int32} {w : Nat → Int64} {lo : Option Nat} {Lo : Option ((Nat → Int64) → Int64)}
theorem cq_pk_pt (iv : cq_iv s a day tm pm now) (hn : now < 2 ^ 31) : cq_pt (cq_pk Lo s a) tm := by
  obtain ⟨e0, d1, d2, e2, t6, e3, p6, e7, h8, h9, hg, hr⟩ := iv
  rw [cq_pk, e0, e2, e3, e7, nI_clamp (by omega), nI_clamp (by omega), nI_clamp (by omega), nI_clamp (by omega)]
  have hm : now % day < day := Nat.mod_lt _ (by omega)
  unfold cq_ih
  split
  · exact .inl rfl
  · split
    · cases Lo with
      | none => exact hr _ hm
      | some L => exact cq_bst_pt
    · exact h9
theorem cq_iv_go (iv : cq_iv s a day tm pm now) (hn : now < 2 ^ 31) : cq_iv (cq_go Lo (s, a)).1 (cq_go Lo (s, a)).2 day tm pm (now + 1) := by
  have hp := cq_pk_pt (Lo := Lo) iv hn
  obtain ⟨e0, d1, d2, e2, t6, e3, p6, e7, h8, h9, hg, hr⟩ := iv
  refine ⟨e0, d1, d2, e2, t6, e3, p6, ?_, hp, .inl rfl, ?_, hr⟩
  · show s 7 + 1 = _
    rw [e7, nI_1]
  · obtain ⟨g, g9, e⟩ := hg
    show ∃ g, g ≤ 9 ∧ (if 0 < s 10 - 1 then s 10 - 1 else 0) = nI g
    rw [e]
    rcases (by omega : g = 0 ∨ g = 1 ∨ g = 2 ∨ g = 3 ∨ g = 4 ∨ g = 5 ∨ g = 6 ∨ g = 7 ∨ g = 8 ∨ g = 9) with q | q | q | q | q | q | q | q | q | q <;> subst q <;> first | exact ⟨0, by omega, by decide⟩ | exact ⟨1, by omega, by decide⟩ | exact ⟨2, by omega, by decide⟩ | exact ⟨3, by omega, by decide⟩ | exact ⟨4, by omega, by decide⟩ | exact ⟨5, by omega, by decide⟩ | exact ⟨6, by omega, by decide⟩ | exact ⟨7, by omega, by decide⟩ | exact ⟨8, by omega, by decide⟩
theorem cq_inHand (iv : cq_iv s a day tm pm now) (hn : now < 2 ^ 31) (hL : cq_lw (D + 2) b h lo Lo) : ∃ w', jx_cr (d + D + 4) 178 [.ref b, va_rf lo] (cq_put h b (s, a, w)) = some (.inl (some (.int (cq_pk Lo s a))), cq_put h b (s, a, w')) := by
  obtain ⟨e0, d1, d2, e2, t6, e3, p6, e7, h8, h9, hg, hr⟩ := iv
  have hm : now % day < day := Nat.mod_lt _ (by omega)
  have em : s 7 - s 7 / s 0 * s 0 = nI (now % day) := by
    rw [e7, e0]
    exact pk_rem hn (by omega) (by omega)
  have h0 : ¬ s 0 = 0 := by rw [e0]; exact nI_ne0 (by omega) (by omega)
  rw [cq_pk, e0, e2, e3, e7, nI_clamp (by omega), nI_clamp (by omega), nI_clamp (by omega), nI_clamp (by omega)]
  cases lo with
  | none =>
    cases Lo with
    | none => exact ⟨w, cq_inHand0 h0 (by omega) em⟩
    | some L => exact hL.elim
  | some r =>
    cases Lo with
    | none => exact hL.elim
    | some L => exact cq_inHand1 t6 e2 p6 e3 h0 (by omega) em hL
theorem cq_hour (iv : cq_iv s a day tm pm now) (hn : now < 2 ^ 31) (hL : cq_lw (D + 2) b h lo Lo) : ∃ w', jx_cr (d + D + 5) 180 [.ref b, va_rf lo] (cq_put h b (s, a, w)) = some (.inl (some (.int (cq_ws s a))), cq_put h b ((cq_go Lo (s, a)).1, (cq_go Lo (s, a)).2, w')) := by
  have hp := cq_pk_pt (Lo := Lo) iv hn
  have hI := cq_inHand (d := d) (w := w) iv hn hL
  obtain ⟨e0, d1, d2, e2, t6, e3, p6, e7, h8, h9, hg, hr⟩ := iv
  have := cq_passes (d := d + D + 3) (w := w) p6 e3 (cq_pt_6 hp t6) hI
  rw [cq_ws, cq_go]
  simp only [e3, nI_clamp (show pm < 2 ^ 31 by omega)]
  exact this
theorem cq_iv_gn (iv : cq_iv s a day tm pm now) (hn : now + n < 2 ^ 31) : cq_iv (cq_gn Lo n (s, a)).1 (cq_gn Lo n (s, a)).2 day tm pm (now + n) := by
  induction n with
  | zero => exact iv
  | succ n ih => exact cq_iv_go (now := now + n) (ih (by omega)) (by omega)
theorem cq_goesOn (iv : cq_iv s a day tm pm now) (hn : now + n < 2 ^ 31) (hb : 3 ≤ b) (hL : cq_lw (D + 2) b h lo Lo) : ∃ w', jx_cr (d + D + 6) 181 [.ref b, .int (nI n), va_rf lo] (cq_put h b (s, a, w)) = some (.inl (some (.ref b)), cq_put h b ((cq_gn Lo n (s, a)).1, (cq_gn Lo n (s, a)).2, w')) := by
  have loop : ∀ m i, i + m = n → ∀ w, ∃ w', jx_eb (d + D + 5) 181 2 [.ref b, .int (nI n), va_rf lo, .int (nI i)] [] (cq_put h b ((cq_gn Lo i (s, a)).1, (cq_gn Lo i (s, a)).2, w)) = some (.inl (some (.ref b)), cq_put h b ((cq_gn Lo n (s, a)).1, (cq_gn Lo n (s, a)).2, w')) := by
    intro m
    induction m with
    | zero =>
      intro i hi w
      have : i = n := by omega
      subst this
      exact ⟨w, by simp only [eb_181_2, eb_181_19, jx_ns_r, jx_ns_n, jx_ns_q, jx_ns_i, jx_gl_0, jx_gl_s, if_true, if_false, ite_true, ite_false, eq_self, Bool.false_eq_true, List.length_cons, List.length_nil, Nat.zero_le, Nat.reduceAdd, Nat.reduceSub, Nat.reduceLeDiff, Nat.reduceLT, Nat.reduceEqDiff, Int.reduceToNat, reduceIte, xe_iconst, xi_0, xx_0, xe_istore, xe_goto_w, xk_iload, jx_iv_i, ak_I, xe_icmp_ge, xe_aload, jx_rv_r, jx_rv_n, jx_rv_q, xe_inv1, jx_cc_i, jx_cc_v, Nat.reduceMod, Nat.reduceDiv, jx_cl9_i, xe_pop, jx_2_i, jx_2_l, jx_2_r, jx_2_n, jx_2_q, or_self, xk_iinc, ak_C, xi_1, xe_goto, xe_areturn_n, xe_areturn_r, jx_s1, List.set_cons_zero, List.set_cons_succ, jx_2_u, jx_2_s, jx_k_i, jx_k_l, jx_k_r, jx_k_n, jx_k_u, jx_k_s, jx_k_q, nI_leI (show i < 2 ^ 31 by omega) (show i < 2 ^ 31 by omega), Nat.le_refl, hb]⟩
    | succ m ih =>
      intro i hi w
      have h3 : ¬ nI n ≤ nI i := nI_ge (by omega) (by omega)
      obtain ⟨w1, e1⟩ := cq_hour (d := d) (w := w) (cq_iv_gn (n := i) (Lo := Lo) iv (by omega)) (by omega) hL
      obtain ⟨w2, e2⟩ := ih (i + 1) (by omega) w1
      refine ⟨w2, ?_⟩
      rw [← e2, eb_181_2]
      simp only [jx_ns_r, jx_ns_n, jx_ns_q, jx_ns_i, jx_gl_0, jx_gl_s, if_true, if_false, ite_true, ite_false, eq_self, Bool.false_eq_true, List.length_cons, List.length_nil, Nat.zero_le, Nat.reduceAdd, Nat.reduceSub, Nat.reduceLeDiff, Nat.reduceLT, Nat.reduceEqDiff, Int.reduceToNat, reduceIte, xe_iconst, xi_0, xx_0, xe_istore, xe_goto_w, xk_iload, jx_iv_i, ak_I, xe_icmp_ge, xe_aload, jx_rv_r, jx_rv_n, jx_rv_q, xe_inv1, jx_cc_i, jx_cc_v, Nat.reduceMod, Nat.reduceDiv, jx_cl9_i, xe_pop, jx_2_i, jx_2_l, jx_2_r, jx_2_n, jx_2_q, or_self, xk_iinc, ak_C, xi_1, xe_goto, xe_areturn_n, xe_areturn_r, jx_s1, List.set_cons_zero, List.set_cons_succ, jx_2_u, jx_2_s, jx_k_i, jx_k_l, jx_k_r, jx_k_n, jx_k_u, jx_k_s, jx_k_q, cq_r, h3, e1, nI_1]
      rfl
  obtain ⟨w', e⟩ := loop n 0 (by omega) w
  refine ⟨w', ?_⟩
  rw [nI_0] at e
  simp only [cr_181 jx_ns_q, eb_181_0, jx_ns_r, jx_ns_n, jx_ns_q, jx_ns_i, jx_gl_0, jx_gl_s, if_true, if_false, ite_true, ite_false, eq_self, Bool.false_eq_true, List.length_cons, List.length_nil, Nat.zero_le, Nat.reduceAdd, Nat.reduceSub, Nat.reduceLeDiff, Nat.reduceLT, Nat.reduceEqDiff, Int.reduceToNat, reduceIte, xe_iconst, xi_0, xx_0, xe_istore, xe_goto_w, xk_iload, jx_iv_i, ak_I, xe_icmp_ge, xe_aload, jx_rv_r, jx_rv_n, jx_rv_q, xe_inv1, jx_cc_i, jx_cc_v, Nat.reduceMod, Nat.reduceDiv, jx_cl9_i, xe_pop, jx_2_i, jx_2_l, jx_2_r, jx_2_n, jx_2_q, or_self, xk_iinc, ak_C, xi_1, xe_goto, xe_areturn_n, xe_areturn_r, jx_s1, List.set_cons_zero, List.set_cons_succ, jx_2_u, jx_2_s, jx_k_i, jx_k_l, jx_k_r, jx_k_n, jx_k_u, jx_k_s, jx_k_q]
  exact e
end CG
