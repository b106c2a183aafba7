/-! THE TWIN: rows carried to the images and back -/
set_option maxRecDepth 100000
/-- what an image holds -/
def tq_si (s : Nat → Int32) (a : Nat → Nat → Int32) (E : Nat → Int32) (k : Nat) : Int32 :=
  if k < 11 then tq_sc s E k else if k < 17 then a 6 (k - 11) else if k < 23 then a 7 (k - 17) else if k < 29 then a 8 (k - 23) else if k < 35 then a 9 (k - 29)
  else if k < 36 then s 5 else if k < 42 then a 0 (k - 36) else if k < 48 then a 2 (k - 42) else if k < 60 then a 1 (k - 48) else if k < 66 then a 4 (k - 60) else if k < 76 then a 5 (2 * (k - 66)) else if k < 86 then a 5 (2 * (k - 76) + 1) else if k < 92 then a 3 (k - 86) else a 10 (k - 92)
/-- the images, m slots of the u-th written -/
def tq_im (q : Nat → Int32) (u : Nat) (s : Nat → Int32) (a : Nat → Nat → Int32) (E : Nat → Int32) (m k : Nat) : Int32 := if 700 * u ≤ k ∧ k < 700 * u + m then tq_si s a E (k - 700 * u) else q k
theorem va_cpy_s {g q : Nat → Int32} {v m : Nat} : upd (va_cpy g q 0 v m) (v + m) (g m) = va_cpy g q 0 v (m + 1) := by
  funext k
  simp only [upd, va_cpy]
  by_cases h : k = v + m
  · subst h
    rw [if_pos rfl, if_pos (by omega)]
    congr 1
    omega
  · rw [if_neg h]
    by_cases h2 : v ≤ k ∧ k < v + m
    · rw [if_pos h2, if_pos (by omega)]
    · rw [if_neg h2, if_neg (by omega)]
theorem va_cpy_0 {g q : Nat → Int32} {v : Nat} : va_cpy g q 0 v 0 = q := by
  funext k
  simp only [va_cpy]
  rw [if_neg (by omega)]
theorem tq_im_s {q g : Nat → Int32} {u : Nat} {s : Nat → Int32} {a : Nat → Nat → Int32} {E : Nat → Int32} {m n : Nat} (h : ∀ k, k < n → tq_si s a E (m + k) = g k) : va_cpy g (tq_im q u s a E m) 0 (700 * u + m) n = tq_im q u s a E (m + n) := by
  funext k
  simp only [va_cpy, tq_im]
  by_cases h1 : 700 * u + m ≤ k ∧ k < 700 * u + m + n
  · rw [if_pos h1, if_pos (by omega), Nat.zero_add, ← h _ (by omega)]
    congr 1
    omega
  · rw [if_neg h1]
    by_cases h2 : 700 * u ≤ k ∧ k < 700 * u + m
    · rw [if_pos h2, if_pos (by omega)]
    · rw [if_neg h2, if_neg (by omega)]
theorem tq_im_0 {q : Nat → Int32} {u : Nat} {s : Nat → Int32} {a : Nat → Nat → Int32} {E : Nat → Int32} : tq_im q u s a E 0 = q := by
  funext k
  rw [tq_im, if_neg (by omega)]
def tq_ss (s g : Nat → Int32) (k : Nat) : Int32 := if k = 0 then g 0 else if k = 1 then g 1 else if k = 2 then g 2 else if k = 3 then g 3 else if k = 7 then g 4 else if k = 8 then g 5 else if k = 9 then g 6 else if k = 10 then g 7 else if k = 4 then g 8 else s k
def tq_se (E g : Nat → Int32) (k : Nat) : Int32 := if k = 0 then g 9 else if k = 1 then g 10 else if 11 ≤ k then g k else E k
theorem tq_sse {s E g : Nat → Int32} : tq_sc (tq_ss s g) (tq_se E g) = g := by
  funext k
  by_cases r11 : k < 11
  · rcases (by omega : k = 0 ∨ k = 1 ∨ k = 2 ∨ k = 3 ∨ k = 4 ∨ k = 5 ∨ k = 6 ∨ k = 7 ∨ k = 8 ∨ k = 9 ∨ k = 10) with q | q | q | q | q | q | q | q | q | q | q <;> subst q <;> rfl
  · simp only [tq_sc, tq_se, show ¬ k = 0 by omega, show ¬ k = 1 by omega, show ¬ k = 2 by omega, show ¬ k = 3 by omega, show ¬ k = 4 by omega, show ¬ k = 5 by omega, show ¬ k = 6 by omega, show ¬ k = 7 by omega, show ¬ k = 8 by omega, show ¬ k = 9 by omega, show ¬ k = 10 by omega, show 11 ≤ k by omega, if_false, if_true]
section TH
variable {d c n v : Nat} {N q g : Nat → Int32} {Hg : (Nat → Int32) → (Nat → Int32) → jx_H}
theorem tm_carry0 (h113 : ∀ q N, (Hg q N).1 113 = .inr (3, tw_ob N)) (w113 : ∀ q N N', jx_put (Hg q N) 113 (.inr (3, tw_ob N')) = Hg q N') (h149 : ∀ q N, (Hg q N).1 149 = .inl (0, 3500, .inl q)) (w149 : ∀ q q' N, jx_put (Hg q N) 149 (.inl (0, 3500, .inl q')) = Hg q' N) (hc : ∀ q N, (Hg q N).1 c = .inl (0, n, .inl g)) (hv : v + n ≤ 3500) (e51 : N 51 = nI v) (e52 : N 52 = 0) :
    jx_cr (d + 1) 156 [.ref 113, .ref c] (Hg q N) = some (.inl none, Hg (va_cpy g q 0 v n) (va_up N 51 (nI (v + n)))) := by
  have en : Int32.ofNat n = nI n := rfl
  have key := jx_lp (d := d) (y := 156) (L := 2) (n := n) (γ := Unit) (ls := fun m _ => [.ref 113, .ref c, .int (nI m)]) (H := fun m _ => Hg (va_cpy g q 0 v m) (va_up N 51 (nI (v + m))))
    (I := fun _ _ => True)
    (G := fun r => r = some (.inl none, Hg (va_cpy g q 0 v n) (va_up N 51 (nI (v + n))))) ?_ ?_ n 0 () (by omega) trivial
  · have eN : va_up N 51 (nI v) = N := by rw [← e51]; exact va_up_id
    simp only [nI_0, Nat.add_zero, eN, va_cpy_0] at key
    simp only [cr_156 jx_ns_r, eb_156_0, jx_ns_r, jx_ns_n, jx_ns_q, jx_ns_i, jx_gl_0, jx_gl_s, if_true, if_false, ite_true, ite_false, eq_self, Bool.false_eq_true, List.length_cons, List.length_nil, Nat.zero_le, Nat.reduceAdd, Nat.reduceSub, Nat.reduceLeDiff, Nat.reduceLT, Nat.reduceEqDiff, Int.reduceToNat, reduceIte, xe_iconst, xi_0, xx_0, xe_istore, xe_goto_w, xk_iload, jx_iv_i, ak_I, xe_aload, jx_rv_r, jx_rv_n, jx_rv_q, xk_alen, jx_al_i, xe_icmp_ge, xk_getf, jx_gf_i, jx_ov_s, ak_V, xe_ifeq, xk_iald, ja_ia, ak_A, true_or, or_true, xk_iast, ja_is, ak_S, ak_P, xe_goto, xe_dup, jx_2_i, jx_2_l, jx_2_r, jx_2_n, jx_2_q, or_self, xi_1, xx_1, xe_iadd, xk_putf, jx_pf_i, jx_pf_z, jx_pf_l, jx_pf_r, jx_pf_n, jx_pf_q, Nat.reduceMod, Nat.reduceDiv, xk_iinc, ak_C, xe_return, jx_s1, List.set_cons_zero, List.set_cons_succ, jx_2_u, jx_2_s, jx_k_i, jx_k_l, jx_k_r, jx_k_n, jx_k_u, jx_k_s, jx_k_q]
    exact key
  · intro m _ hm _
    have h3 : ¬ nI n ≤ nI m := nI_ge hm (by omega)
    have i1 := sp_ix hm (by omega)
    have i2 := sp_ix (show v + m < 3500 by omega) (by decide)
    have e52' : va_up N 51 (nI (v + m)) 52 = 0 := e52
    refine .inr ⟨(), trivial, ?_⟩
    rw [eb_156_2]
    simp only [eb_156_30, eb_156_42, jx_ns_r, jx_ns_n, jx_ns_q, jx_ns_i, jx_gl_0, jx_gl_s, if_true, if_false, ite_true, ite_false, eq_self, Bool.false_eq_true, List.length_cons, List.length_nil, Nat.zero_le, Nat.reduceAdd, Nat.reduceSub, Nat.reduceLeDiff, Nat.reduceLT, Nat.reduceEqDiff, Int.reduceToNat, reduceIte, xe_iconst, xi_0, xx_0, xe_istore, xe_goto_w, xk_iload, jx_iv_i, ak_I, xe_aload, jx_rv_r, jx_rv_n, jx_rv_q, xk_alen, jx_al_i, xe_icmp_ge, xk_getf, jx_gf_i, jx_ov_s, ak_V, xe_ifeq, xk_iald, ja_ia, ak_A, true_or, or_true, xk_iast, ja_is, ak_S, ak_P, xe_goto, xe_dup, jx_2_i, jx_2_l, jx_2_r, jx_2_n, jx_2_q, or_self, xi_1, xx_1, xe_iadd, xk_putf, jx_pf_i, jx_pf_z, jx_pf_l, jx_pf_r, jx_pf_n, jx_pf_q, Nat.reduceMod, Nat.reduceDiv, xk_iinc, ak_C, xe_return, jx_s1, List.set_cons_zero, List.set_cons_succ, jx_2_u, jx_2_s, jx_k_i, jx_k_l, jx_k_r, jx_k_n, jx_k_u, jx_k_s, jx_k_q, h113, w113, h149, w149, hc, tw_f, tw_s, en, h3, i1, i2, e52', va_up_s, reduceIte, va_up_up, va_cpy_s, nI_1, show v + (m + 1) = v + m + 1 from rfl]
  · intro _ _
    have h3 : nI n ≤ nI n := (nI_leI (by omega) (by omega)).mpr (Nat.le_refl _)
    simp only [eb_156_2, eb_156_58, jx_ns_r, jx_ns_n, jx_ns_q, jx_ns_i, jx_gl_0, jx_gl_s, if_true, if_false, ite_true, ite_false, eq_self, Bool.false_eq_true, List.length_cons, List.length_nil, Nat.zero_le, Nat.reduceAdd, Nat.reduceSub, Nat.reduceLeDiff, Nat.reduceLT, Nat.reduceEqDiff, Int.reduceToNat, reduceIte, xe_iconst, xi_0, xx_0, xe_istore, xe_goto_w, xk_iload, jx_iv_i, ak_I, xe_aload, jx_rv_r, jx_rv_n, jx_rv_q, xk_alen, jx_al_i, xe_icmp_ge, xk_getf, jx_gf_i, jx_ov_s, ak_V, xe_ifeq, xk_iald, ja_ia, ak_A, true_or, or_true, xk_iast, ja_is, ak_S, ak_P, xe_goto, xe_dup, jx_2_i, jx_2_l, jx_2_r, jx_2_n, jx_2_q, or_self, xi_1, xx_1, xe_iadd, xk_putf, jx_pf_i, jx_pf_z, jx_pf_l, jx_pf_r, jx_pf_n, jx_pf_q, Nat.reduceMod, Nat.reduceDiv, xk_iinc, ak_C, xe_return, jx_s1, List.set_cons_zero, List.set_cons_succ, jx_2_u, jx_2_s, jx_k_i, jx_k_l, jx_k_r, jx_k_n, jx_k_u, jx_k_s, jx_k_q, hc, en, h3]
theorem tm_carry1 (h113 : ∀ f N, (Hg f N).1 113 = .inr (3, tw_ob N)) (w113 : ∀ f N N', jx_put (Hg f N) 113 (.inr (3, tw_ob N')) = Hg f N') (h149 : ∀ f N, (Hg f N).1 149 = .inl (0, 3500, .inl q)) (hc : ∀ f N, (Hg f N).1 c = .inl (0, n, .inl f)) (wc : ∀ f f' N, jx_put (Hg f N) c (.inl (0, n, .inl f')) = Hg f' N) (hv : v + n ≤ 3500) (e51 : N 51 = nI v) (e52 : N 52 = 1) :
    jx_cr (d + 1) 156 [.ref 113, .ref c] (Hg g N) = some (.inl none, Hg (cq_fl n (fun k => q (v + k)) g) (va_up N 51 (nI (v + n)))) := by
  have en : Int32.ofNat n = nI n := rfl
  have key := jx_lp (d := d) (y := 156) (L := 2) (n := n) (γ := Unit) (ls := fun m _ => [.ref 113, .ref c, .int (nI m)]) (H := fun m _ => Hg (cq_fl m (fun k => q (v + k)) g) (va_up N 51 (nI (v + m))))
    (I := fun _ _ => True)
    (G := fun r => r = some (.inl none, Hg (cq_fl n (fun k => q (v + k)) g) (va_up N 51 (nI (v + n))))) ?_ ?_ n 0 () (by omega) trivial
  · have eN : va_up N 51 (nI v) = N := by rw [← e51]; exact va_up_id
    simp only [nI_0, Nat.add_zero, eN, cq_fl_0] at key
    simp only [cr_156 jx_ns_r, eb_156_0, jx_ns_r, jx_ns_n, jx_ns_q, jx_ns_i, jx_gl_0, jx_gl_s, if_true, if_false, ite_true, ite_false, eq_self, Bool.false_eq_true, List.length_cons, List.length_nil, Nat.zero_le, Nat.reduceAdd, Nat.reduceSub, Nat.reduceLeDiff, Nat.reduceLT, Nat.reduceEqDiff, Int.reduceToNat, reduceIte, xe_iconst, xi_0, xx_0, xe_istore, xe_goto_w, xk_iload, jx_iv_i, ak_I, xe_aload, jx_rv_r, jx_rv_n, jx_rv_q, xk_alen, jx_al_i, xe_icmp_ge, xk_getf, jx_gf_i, jx_ov_s, ak_V, xe_ifeq, xk_iald, ja_ia, ak_A, true_or, or_true, xk_iast, ja_is, ak_S, ak_P, xe_goto, xe_dup, jx_2_i, jx_2_l, jx_2_r, jx_2_n, jx_2_q, or_self, xi_1, xx_1, xe_iadd, xk_putf, jx_pf_i, jx_pf_z, jx_pf_l, jx_pf_r, jx_pf_n, jx_pf_q, Nat.reduceMod, Nat.reduceDiv, xk_iinc, ak_C, xe_return, jx_s1, List.set_cons_zero, List.set_cons_succ, jx_2_u, jx_2_s, jx_k_i, jx_k_l, jx_k_r, jx_k_n, jx_k_u, jx_k_s, jx_k_q]
    exact key
  · intro m _ hm _
    have h3 : ¬ nI n ≤ nI m := nI_ge hm (by omega)
    have i1 := sp_ix hm (by omega)
    have i2 := sp_ix (show v + m < 3500 by omega) (by decide)
    have e52' : va_up N 51 (nI (v + m)) 52 = 1 := e52
    have es : upd (cq_fl m (fun k => q (v + k)) g) m (q (v + m)) = cq_fl (m + 1) (fun k => q (v + k)) g := cq_fl_s (F := fun k => q (v + k))
    refine .inr ⟨(), trivial, ?_⟩
    rw [eb_156_2]
    simp only [eb_156_30, eb_156_42, jx_ns_r, jx_ns_n, jx_ns_q, jx_ns_i, jx_gl_0, jx_gl_s, if_true, if_false, ite_true, ite_false, eq_self, Bool.false_eq_true, List.length_cons, List.length_nil, Nat.zero_le, Nat.reduceAdd, Nat.reduceSub, Nat.reduceLeDiff, Nat.reduceLT, Nat.reduceEqDiff, Int.reduceToNat, reduceIte, xe_iconst, xi_0, xx_0, xe_istore, xe_goto_w, xk_iload, jx_iv_i, ak_I, xe_aload, jx_rv_r, jx_rv_n, jx_rv_q, xk_alen, jx_al_i, xe_icmp_ge, xk_getf, jx_gf_i, jx_ov_s, ak_V, xe_ifeq, xk_iald, ja_ia, ak_A, true_or, or_true, xk_iast, ja_is, ak_S, ak_P, xe_goto, xe_dup, jx_2_i, jx_2_l, jx_2_r, jx_2_n, jx_2_q, or_self, xi_1, xx_1, xe_iadd, xk_putf, jx_pf_i, jx_pf_z, jx_pf_l, jx_pf_r, jx_pf_n, jx_pf_q, Nat.reduceMod, Nat.reduceDiv, xk_iinc, ak_C, xe_return, jx_s1, List.set_cons_zero, List.set_cons_succ, jx_2_u, jx_2_s, jx_k_i, jx_k_l, jx_k_r, jx_k_n, jx_k_u, jx_k_s, jx_k_q, h113, w113, h149, hc, wc, tw_f, tw_s, en, h3, i1, i2, e52', sp_10, va_up_s, reduceIte, va_up_up, es, nI_1, show v + (m + 1) = v + m + 1 from rfl]
  · intro _ _
    have h3 : nI n ≤ nI n := (nI_leI (by omega) (by omega)).mpr (Nat.le_refl _)
    simp only [eb_156_2, eb_156_58, jx_ns_r, jx_ns_n, jx_ns_q, jx_ns_i, jx_gl_0, jx_gl_s, if_true, if_false, ite_true, ite_false, eq_self, Bool.false_eq_true, List.length_cons, List.length_nil, Nat.zero_le, Nat.reduceAdd, Nat.reduceSub, Nat.reduceLeDiff, Nat.reduceLT, Nat.reduceEqDiff, Int.reduceToNat, reduceIte, xe_iconst, xi_0, xx_0, xe_istore, xe_goto_w, xk_iload, jx_iv_i, ak_I, xe_aload, jx_rv_r, jx_rv_n, jx_rv_q, xk_alen, jx_al_i, xe_icmp_ge, xk_getf, jx_gf_i, jx_ov_s, ak_V, xe_ifeq, xk_iald, ja_ia, ak_A, true_or, or_true, xk_iast, ja_is, ak_S, ak_P, xe_goto, xe_dup, jx_2_i, jx_2_l, jx_2_r, jx_2_n, jx_2_q, or_self, xi_1, xx_1, xe_iadd, xk_putf, jx_pf_i, jx_pf_z, jx_pf_l, jx_pf_r, jx_pf_n, jx_pf_q, Nat.reduceMod, Nat.reduceDiv, xk_iinc, ak_C, xe_return, jx_s1, List.set_cons_zero, List.set_cons_succ, jx_2_u, jx_2_s, jx_k_i, jx_k_l, jx_k_r, jx_k_n, jx_k_u, jx_k_s, jx_k_q, hc, en, h3]
end TH
section TH2
variable {d : Nat} {h : jx_H} {s : Nat → Int32} {a : Nat → Nat → Int32} {E N : Nat → Int32} {Q : Nat → Nat → Int32} {W : Nat → Nat → Int64} {i k : Int32} {t u v tm pm day now D n m : Nat} {Lo : Option ((Nat → Int64) → Int64)}
theorem tq_m700 : (700 : Int32) * nI u = nI (700 * u) := (Int32.ofNat_mul 700 u).symm
/-- into an image -/
theorem tq_c0 {c n m : Nat} {g : Nat → Int32} {q0 : Nat → Int32} {s1 : Nat → Int32} {a1 : Nat → Nat → Int32} {E1 : Nat → Int32} (hc : ∀ q N, (tw h s a E N (va_up Q 49 q) W).1 c = .inl (0, n, .inl g)) (hs : ∀ k, k < n → tq_si s1 a1 E1 (m + k) = g k) (hu : 700 * u + m + n ≤ 3500) (e51 : N 51 = nI (700 * u + m)) (e52 : N 52 = 0) :
    jx_cr (d + 1) 156 [.ref 113, .ref c] (tw h s a E N (va_up Q 49 (tq_im q0 u s1 a1 E1 m)) W) = some (.inl none, tw h s a E (va_up N 51 (nI (700 * u + (m + n)))) (va_up Q 49 (tq_im q0 u s1 a1 E1 (m + n))) W) := by
  have := tm_carry0 (d := d) (Hg := fun q N => tw h s a E N (va_up Q 49 q) W) (q := tq_im q0 u s1 a1 E1 m) (fun _ _ => rfl) (fun _ _ _ => tw_wo) (fun _ _ => rfl) (fun q q' N => by rw [tw_w49, va_up_up]) hc hu e51 e52
  rw [tq_im_s hs, Nat.add_assoc] at this
  exact this
theorem tm_keepsAll : ∃ N', tq_nf N N' ∧ jx_cr (d + 3) 126 [.ref 113] (tw h s a E N Q W) = some (.inl none, tw h s a E N' (va_up Q 49 (tq_im (Q 49) 4 s a E 35)) W) := by
  have e700 : (700 : Int32) * 4 = 2800 := by decide
  have l := fun (d c n m : Nat) (g : Nat → Int32) (hc : ∀ q N, (tw h s a E N (va_up Q 49 q) W).1 c = .inl (0, n, .inl g)) (hs : ∀ k, k < n → tq_si s a E (m + k) = g k) (hu : 700 * 4 + m + n ≤ 3500) => tq_c0 (d := d) (q0 := Q 49) (N := va_up (va_up (va_up N 51 2800) 52 0) 51 (nI (700 * 4 + m))) (u := 4) hc hs hu rfl rfl
  have r1 := fun d => l d 114 11 0 _ (fun _ _ => rfl) (fun k hk => by rw [tq_si, if_pos (by omega), Nat.zero_add]) (by omega)
  have r2 := fun d => l d 117 6 11 _ (fun _ _ => rfl) (fun k hk => by rw [tq_si, if_neg (by omega), if_pos (by omega), Nat.add_sub_cancel_left]) (by omega)
  have r3 := fun d => l d 119 6 17 _ (fun _ _ => rfl) (fun k hk => by rw [tq_si, if_neg (by omega), if_neg (by omega), if_pos (by omega), Nat.add_sub_cancel_left]) (by omega)
  have r4 := fun d => l d 121 6 23 _ (fun _ _ => rfl) (fun k hk => by rw [tq_si, if_neg (by omega), if_neg (by omega), if_neg (by omega), if_pos (by omega), Nat.add_sub_cancel_left]) (by omega)
  have r5 := fun d => l d 122 6 29 _ (fun _ _ => rfl) (fun k hk => by rw [tq_si, if_neg (by omega), if_neg (by omega), if_neg (by omega), if_neg (by omega), if_pos (by omega), Nat.add_sub_cancel_left]) (by omega)
  have eN : va_up (va_up (va_up N 51 2800) 52 0) 51 (nI (700 * 4 + 0)) = va_up (va_up N 51 2800) 52 0 := by
    funext j
    simp only [va_up]
    by_cases j2 : j = 51
    · subst j2; rfl
    · rw [if_neg j2, if_neg j2]
  simp only [va_up_up, Nat.reduceAdd] at r1 r2 r3 r4 r5
  rw [eN, tq_im_0, va_up_id] at r1
  simp only [Nat.reduceMul, Nat.reduceAdd] at r1 r2 r3 r4 r5
  refine ⟨va_up (va_up (va_up N 51 2800) 52 0) 51 (nI 2835), fun k h1 h2 h3 h4 => by simp only [va_up, h3, h4, if_false], ?_⟩
  simp only [cr_126, eb_126_0, jx_ns_r, jx_ns_n, jx_ns_q, jx_ns_i, jx_gl_0, jx_gl_s, if_true, if_false, ite_true, ite_false, eq_self, Bool.false_eq_true, List.length_cons, List.length_nil, Nat.zero_le, Nat.reduceAdd, Nat.reduceSub, Nat.reduceLeDiff, Nat.reduceLT, Nat.reduceEqDiff, Int.reduceToNat, reduceIte, xe_aload, jx_rv_r, jx_rv_n, jx_rv_q, xe_iconst, xi_4, xx_4, xi_0, xx_0, xe_inv2, jx_cc_i, jx_cc_v, Nat.reduceMod, Nat.reduceDiv, jx_cl9_i, xe_return, cr_157, eb_157_0, jx_ns_r, jx_ns_n, jx_ns_q, jx_ns_i, jx_gl_0, jx_gl_s, if_true, if_false, ite_true, ite_false, eq_self, Bool.false_eq_true, List.length_cons, List.length_nil, Nat.zero_le, Nat.reduceAdd, Nat.reduceSub, Nat.reduceLeDiff, Nat.reduceLT, Nat.reduceEqDiff, Int.reduceToNat, reduceIte, xe_aload, jx_rv_r, jx_rv_n, jx_rv_q, xe_iconst, xi_700, xk_iload, jx_iv_i, ak_I, xe_imul, xk_putf, ak_P, jx_pf_i, jx_pf_z, jx_pf_l, jx_pf_r, jx_pf_n, jx_pf_q, Nat.reduceMod, Nat.reduceDiv, xk_getf, jx_gf_i, jx_ov_s, ak_V, xe_inv1, jx_cc_i, jx_cc_v, jx_cl9_i, xi_4, xx_4, xe_icmp_ne, xe_return, xi_0, xx_0, xk_iast, ja_is, ak_S, xk_iald, ja_ia, ak_A, true_or, or_true, tw_r, tw_f, tw_s, tw_wo, e700, xZ, r1, r2, r3, r4, r5]
/-- the court of an image that was kept -/
theorem tm_laysBack {s0 E0 : Nat → Int32} {a0 : Nat → Nat → Int32} (hS : ∀ k, k < 35 → Q 49 (2800 + k) = tq_si s0 a0 E0 k) (hE : ∀ k, 2 ≤ k → E k = E0 k) : ∃ N', tq_nf N N' ∧ jx_cr (d + 3) 127 [.ref 113] (tw h s a E N Q W) = some (.inl none, tw h s0 (sp_sa a0 a) E0 N' Q W) := by
  have e700 : (700 : Int32) * 4 = 2800 := by decide
  have eN : va_up (va_up (va_up N 51 2800) 52 1) 51 (nI 2800) = va_up (va_up N 51 2800) 52 1 := by
    funext j
    simp only [va_up]
    by_cases j2 : j = 51
    · subst j2; rfl
    · rw [if_neg j2, if_neg j2]
  have c1 := fun d => tm_carry1 (d := d) (c := 114) (n := 11) (v := 2800) (N := va_up (va_up N 51 2800) 52 1) (q := Q 49) (g := tq_sc s E) (Hg := fun f N => tw h (tq_ss s f) a (tq_se E f) N Q W) (fun _ _ => rfl) (fun _ _ _ => tw_wo) (fun _ _ => rfl) (fun f N => by rw [tw_r.2.1, tq_sse]) (fun f f' N => by have := tw_wsc (h := h) (s := tq_ss s f) (a := a) (E := tq_se E f) (N := N) (Q := Q) (W := W) (s' := tq_ss s f') (E' := tq_se E f'); rwa [tq_sse] at this) (by omega) rfl rfl
  have b1 : tw h (tq_ss s (tq_sc s E)) a (tq_se E (tq_sc s E)) (va_up (va_up N 51 2800) 52 1) Q W = tw h s a E (va_up (va_up N 51 2800) 52 1) Q W := tw_sE tq_sse
  have b2 : ∀ N, tw h (tq_ss s (cq_fl 11 (fun k => Q 49 (2800 + k)) (tq_sc s E))) a (tq_se E (cq_fl 11 (fun k => Q 49 (2800 + k)) (tq_sc s E))) N Q W = tw h s0 a E0 N Q W := fun N => tw_sE (by
    rw [tq_sse]
    funext k
    by_cases hk : k < 11
    · rw [cq_fl_lt hk, hS k (by omega), tq_si, if_pos hk]
    · rw [cq_fl_ge hk]
      have := hE k (by omega)
      simp only [tq_sc, show ¬ k = 0 by omega, show ¬ k = 1 by omega, show ¬ k = 2 by omega, show ¬ k = 3 by omega, show ¬ k = 4 by omega, show ¬ k = 5 by omega, show ¬ k = 6 by omega, show ¬ k = 7 by omega, show ¬ k = 8 by omega, show ¬ k = 9 by omega, show ¬ k = 10 by omega, if_false, this])
  simp only [b1, b2] at c1
  have cr := fun (d c j v : Nat) (a : Nat → Nat → Int32) (N : Nat → Int32) (hr : tq_rw c j) (hv : v + 6 ≤ 3500) (e51 : N 51 = nI v) (e52 : N 52 = 1) => tm_carry1 (d := d) (c := c) (n := 6) (v := v) (N := N) (q := Q 49) (g := a j) (Hg := fun f N => tw h s0 (va_up a j f) E0 N Q W) (fun _ _ => rfl) (fun _ _ _ => tw_wo) (fun _ _ => rfl) (fun f N => by rw [(hr h s0 (va_up a j f) E0 N Q W).1, show va_up a j f j = f from if_pos rfl]) (fun f f' N => by rw [(hr h s0 (va_up a j f) E0 N Q W).2, va_up_up]) hv e51 e52
  simp only [va_up_id] at cr
  have r2 := fun d a N => cr d 117 6 2811 a N tq_rw6 (by omega)
  have r3 := fun d a N => cr d 119 7 2817 a N tq_rw7 (by omega)
  have r4 := fun d a N => cr d 121 8 2823 a N tq_rw8 (by omega)
  have r5 := fun d a N => cr d 122 9 2829 a N tq_rw9 (by omega)
  have f2 : cq_fl 6 (fun k => Q 49 (2811 + k)) (a 6) = cq_fl 6 (a0 6) (a 6) := by
    funext k
    by_cases hk : k < 6
    · rw [cq_fl_lt hk, cq_fl_lt hk, show 2811 + k = 2800 + (11 + k) by omega, hS _ (by omega), tq_si, if_neg (by omega), if_pos (by omega), Nat.add_sub_cancel_left]
    · rw [cq_fl_ge hk, cq_fl_ge hk]
  have f3 : cq_fl 6 (fun k => Q 49 (2817 + k)) (a 7) = cq_fl 6 (a0 7) (a 7) := by
    funext k
    by_cases hk : k < 6
    · rw [cq_fl_lt hk, cq_fl_lt hk, show 2817 + k = 2800 + (17 + k) by omega, hS _ (by omega), tq_si, if_neg (by omega), if_neg (by omega), if_pos (by omega), Nat.add_sub_cancel_left]
    · rw [cq_fl_ge hk, cq_fl_ge hk]
  have f4 : cq_fl 6 (fun k => Q 49 (2823 + k)) (a 8) = cq_fl 6 (a0 8) (a 8) := by
    funext k
    by_cases hk : k < 6
    · rw [cq_fl_lt hk, cq_fl_lt hk, show 2823 + k = 2800 + (23 + k) by omega, hS _ (by omega), tq_si, if_neg (by omega), if_neg (by omega), if_neg (by omega), if_pos (by omega), Nat.add_sub_cancel_left]
    · rw [cq_fl_ge hk, cq_fl_ge hk]
  have f5 : cq_fl 6 (fun k => Q 49 (2829 + k)) (a 9) = cq_fl 6 (a0 9) (a 9) := by
    funext k
    by_cases hk : k < 6
    · rw [cq_fl_lt hk, cq_fl_lt hk, show 2829 + k = 2800 + (29 + k) by omega, hS _ (by omega), tq_si, if_neg (by omega), if_neg (by omega), if_neg (by omega), if_neg (by omega), if_pos (by omega), Nat.add_sub_cancel_left]
    · rw [cq_fl_ge hk, cq_fl_ge hk]
  have eA : va_up (va_up (va_up (va_up a 6 (cq_fl 6 (a0 6) (a 6))) 7 (cq_fl 6 (a0 7) (a 7))) 8 (cq_fl 6 (a0 8) (a 8))) 9 (cq_fl 6 (a0 9) (a 9)) = sp_sa a0 a := by
    funext j
    simp only [va_up, sp_sa]
    by_cases q : 6 ≤ j ∧ j < 10
    · rw [if_pos q]
      rcases (by omega : j = 6 ∨ j = 7 ∨ j = 8 ∨ j = 9) with q | q | q | q <;> subst q <;> rfl
    · rw [if_neg q, if_neg (by omega), if_neg (by omega), if_neg (by omega), if_neg (by omega)]
  have n1 := fun (N : Nat → Int32) (x y : Int32) => (va_up_up (f := N) (k := 51) (x := x) (y := y))
  have c2 := fun d => r2 d a (va_up (va_up (va_up N 51 2800) 52 1) 51 (nI 2811)) rfl rfl
  have c3 := fun d => r3 d (va_up a 6 (cq_fl 6 (a0 6) (a 6))) (va_up (va_up (va_up N 51 2800) 52 1) 51 (nI 2817)) rfl rfl
  have c4 := fun d => r4 d (va_up (va_up a 6 (cq_fl 6 (a0 6) (a 6))) 7 (cq_fl 6 (a0 7) (a 7))) (va_up (va_up (va_up N 51 2800) 52 1) 51 (nI 2823)) rfl rfl
  have c5 := fun d => r5 d (va_up (va_up (va_up a 6 (cq_fl 6 (a0 6) (a 6))) 7 (cq_fl 6 (a0 7) (a 7))) 8 (cq_fl 6 (a0 8) (a 8))) (va_up (va_up (va_up N 51 2800) 52 1) 51 (nI 2829)) rfl rfl
  simp only [n1, Nat.reduceAdd, va_up_s, reduceIte, Nat.reduceEqDiff, f2, f3, f4, f5] at c1 c2 c3 c4 c5
  refine ⟨va_up (va_up (va_up N 51 2800) 52 1) 51 (nI 2835), fun k h1 h2 h3 h4 => by simp only [va_up, h3, h4, if_false], ?_⟩
  rw [← eA]
  simp only [cr_127, eb_127_0, jx_ns_r, jx_ns_n, jx_ns_q, jx_ns_i, jx_gl_0, jx_gl_s, if_true, if_false, ite_true, ite_false, eq_self, Bool.false_eq_true, List.length_cons, List.length_nil, Nat.zero_le, Nat.reduceAdd, Nat.reduceSub, Nat.reduceLeDiff, Nat.reduceLT, Nat.reduceEqDiff, Int.reduceToNat, reduceIte, xe_aload, jx_rv_r, jx_rv_n, jx_rv_q, xe_iconst, xi_4, xx_4, xi_1, xx_1, xe_inv2, jx_cc_i, jx_cc_v, Nat.reduceMod, Nat.reduceDiv, jx_cl9_i, xe_return, cr_157, eb_157_0, jx_ns_r, jx_ns_n, jx_ns_q, jx_ns_i, jx_gl_0, jx_gl_s, if_true, if_false, ite_true, ite_false, eq_self, Bool.false_eq_true, List.length_cons, List.length_nil, Nat.zero_le, Nat.reduceAdd, Nat.reduceSub, Nat.reduceLeDiff, Nat.reduceLT, Nat.reduceEqDiff, Int.reduceToNat, reduceIte, xe_aload, jx_rv_r, jx_rv_n, jx_rv_q, xe_iconst, xi_700, xk_iload, jx_iv_i, ak_I, xe_imul, xk_putf, ak_P, jx_pf_i, jx_pf_z, jx_pf_l, jx_pf_r, jx_pf_n, jx_pf_q, Nat.reduceMod, Nat.reduceDiv, xk_getf, jx_gf_i, jx_ov_s, ak_V, xe_inv1, jx_cc_i, jx_cc_v, jx_cl9_i, xi_4, xx_4, xe_icmp_ne, xe_return, xi_0, xx_0, xk_iast, ja_is, ak_S, xk_iald, ja_ia, ak_A, true_or, or_true, tw_r, tw_f, tw_s, tw_wo, e700, xZ, c1, c2, c3, c4, c5]
end TH2
