/-! EVALUATION: what simp needs besides the opcodes -/
set_option maxRecDepth 100000
section XF
variable {d y : Nat} {c : List Instr} {ls st : List Value} {h : jx_H} {z b : Nat} {v1 v2 v3 v4 v5 : Value}
theorem xe_inv0 (hz : z % 10 = 0) (h4 : st.length ≤ 4) : jx_ev d y (.invokevirtual z :: c) ls (.ref b :: st) h = jx_cl9 (h.1 b) (z / 10000 % 100) (jx_cc d y c ls st (z / 1000000) (jx_cr d (z / 10 % 1000) [.ref b] h)) := xe_inv (by rw [hz]; rfl) h4
theorem xe_inv1 (hz : z % 10 = 1) (h4 : st.length ≤ 4) : jx_ev d y (.invokevirtual z :: c) ls (v1 :: .ref b :: st) h = jx_cl9 (h.1 b) (z / 10000 % 100) (jx_cc d y c ls st (z / 1000000) (jx_cr d (z / 10 % 1000) [.ref b, v1] h)) := xe_inv (by rw [hz]; rfl) h4
theorem xe_inv2 (hz : z % 10 = 2) (h4 : st.length ≤ 4) : jx_ev d y (.invokevirtual z :: c) ls (v2 :: v1 :: .ref b :: st) h = jx_cl9 (h.1 b) (z / 10000 % 100) (jx_cc d y c ls st (z / 1000000) (jx_cr d (z / 10 % 1000) [.ref b, v1, v2] h)) := xe_inv (by rw [hz]; rfl) h4
theorem xe_inv3 (hz : z % 10 = 3) (h4 : st.length ≤ 4) : jx_ev d y (.invokevirtual z :: c) ls (v3 :: v2 :: v1 :: .ref b :: st) h = jx_cl9 (h.1 b) (z / 10000 % 100) (jx_cc d y c ls st (z / 1000000) (jx_cr d (z / 10 % 1000) [.ref b, v1, v2, v3] h)) := xe_inv (by rw [hz]; rfl) h4
theorem xe_inv4 (hz : z % 10 = 4) (h4 : st.length ≤ 4) : jx_ev d y (.invokevirtual z :: c) ls (v4 :: v3 :: v2 :: v1 :: .ref b :: st) h = jx_cl9 (h.1 b) (z / 10000 % 100) (jx_cc d y c ls st (z / 1000000) (jx_cr d (z / 10 % 1000) [.ref b, v1, v2, v3, v4] h)) := xe_inv (by rw [hz]; rfl) h4
theorem xe_inv5 (hz : z % 10 = 5) (h4 : st.length ≤ 4) : jx_ev d y (.invokevirtual z :: c) ls (v5 :: v4 :: v3 :: v2 :: v1 :: .ref b :: st) h = jx_cl9 (h.1 b) (z / 10000 % 100) (jx_cc d y c ls st (z / 1000000) (jx_cr d (z / 10 % 1000) [.ref b, v1, v2, v3, v4, v5] h)) := xe_inv (by rw [hz]; rfl) h4
theorem xe_spc0 (hz : z % 10 = 0) (h4 : st.length ≤ 4) : jx_ev d y (.invokespecial z :: c) ls (.ref b :: st) h = if 3 ≤ b then jx_cc d y c ls st 1 (jx_cr d (z / 10 % 1000) [.ref b] h) else none := xe_spc (by rw [hz]; rfl) h4
theorem xe_spc1 (hz : z % 10 = 1) (h4 : st.length ≤ 4) : jx_ev d y (.invokespecial z :: c) ls (v1 :: .ref b :: st) h = if 3 ≤ b then jx_cc d y c ls st 1 (jx_cr d (z / 10 % 1000) [.ref b, v1] h) else none := xe_spc (by rw [hz]; rfl) h4
theorem xe_spc2 (hz : z % 10 = 2) (h4 : st.length ≤ 4) : jx_ev d y (.invokespecial z :: c) ls (v2 :: v1 :: .ref b :: st) h = if 3 ≤ b then jx_cc d y c ls st 1 (jx_cr d (z / 10 % 1000) [.ref b, v1, v2] h) else none := xe_spc (by rw [hz]; rfl) h4
theorem xe_spc3 (hz : z % 10 = 3) (h4 : st.length ≤ 4) : jx_ev d y (.invokespecial z :: c) ls (v3 :: v2 :: v1 :: .ref b :: st) h = if 3 ≤ b then jx_cc d y c ls st 1 (jx_cr d (z / 10 % 1000) [.ref b, v1, v2, v3] h) else none := xe_spc (by rw [hz]; rfl) h4
theorem xe_spc4 (hz : z % 10 = 4) (h4 : st.length ≤ 4) : jx_ev d y (.invokespecial z :: c) ls (v4 :: v3 :: v2 :: v1 :: .ref b :: st) h = if 3 ≤ b then jx_cc d y c ls st 1 (jx_cr d (z / 10 % 1000) [.ref b, v1, v2, v3, v4] h) else none := xe_spc (by rw [hz]; rfl) h4
theorem xe_sta1 (hz : z % 10 = 1) (h4 : st.length ≤ 4) : jx_ev d y (.invokestatic z :: c) ls (v1 :: st) h = jx_cc d y c ls st 1 (jx_cr d (z / 10 % 1000) [v1] h) := xe_sta (by rw [hz]; rfl) h4
theorem xe_sta2 (hz : z % 10 = 2) (h4 : st.length ≤ 4) : jx_ev d y (.invokestatic z :: c) ls (v2 :: v1 :: st) h = jx_cc d y c ls st 1 (jx_cr d (z / 10 % 1000) [v1, v2] h) := xe_sta (by rw [hz]; rfl) h4
theorem xe_sta3 (hz : z % 10 = 3) (h4 : st.length ≤ 4) : jx_ev d y (.invokestatic z :: c) ls (v3 :: v2 :: v1 :: st) h = jx_cc d y c ls st 1 (jx_cr d (z / 10 % 1000) [v1, v2, v3] h) := xe_sta (by rw [hz]; rfl) h4
theorem xe_dsp1 (hz : z % 10 = 1) (h4 : st.length ≤ 4) : jx_ev d y (.fload z :: c) ls (v1 :: .ref b :: st) h = jx_cl8 (h.1 b) fun ci => jx_cc d y c ls st 1 (jx_cr d (jx_dt (z / 10) ci) [.ref b, v1] h) := xe_dsp (by rw [hz]; rfl) h4
theorem jx_cc_i {hd : Nat} {v : Value} : jx_cc d y c ls st hd (some (.inl (some v), h)) = jx_ev d y c ls (v :: st) h := rfl
theorem jx_cc_v {hd : Nat} : jx_cc d y c ls st hd (some (.inl none, h)) = jx_ev d y c ls st h := rfl
theorem jx_cc_d {hd : Nat} : jx_cc d y c ls st hd (some (.inr (), h)) = if hd = 0 then (if jx_PP.2.2.2 y = true then none else some (.inr (), h)) else if hd = 1 then none else jx_eb d y (hd / 10) (jx_s1 ls (hd % 10) jx_un) [] h := rfl
theorem jx_cc_x (e : jx_PP.2.2.2 y = false) : jx_cc d y c ls st 0 (some (.inr (), h)) = some (.inr (), h) := by
  rw [jx_cc_d, if_pos rfl, e]; rfl
theorem jx_cc_h {hd : Nat} (e0 : ¬ hd = 0) (e1 : ¬ hd = 1) : jx_cc d y c ls st hd (some (.inr (), h)) = jx_eb d y (hd / 10) (jx_s1 ls (hd % 10) jx_un) [] h := by
  rw [jx_cc_d, if_neg e0, if_neg e1]
theorem jx_cl9_i {ci C : Nat} {fs : List Value} {f : Option jx_R} : jx_cl9 (.inr (ci, fs)) C f = if ci = C then f else none := rfl
theorem jx_cl8_i {ci : Nat} {fs : List Value} {f : Nat → Option jx_R} : jx_cl8 (.inr (ci, fs)) f = f ci := rfl
theorem jx_gl_0 {a : Value} {l : List Value} : jx_gl (a :: l) 0 = a := rfl
theorem jx_gl_s {a : Value} {l : List Value} {n : Nat} : jx_gl (a :: l) (n + 1) = jx_gl l n := rfl
theorem jx_iv_i {x : Int32} {f : Int32 → Option jx_R} : jx_iv (.int x) f = f x := rfl
theorem jx_lv_l {x : Int64} {f : Int64 → Option jx_R} : jx_lv (.long x) f = f x := rfl
theorem jx_rv_r {x : Nat} {f : Option jx_R} : jx_rv (.ref x) f = f := rfl
theorem jx_rv_n {f : Option jx_R} : jx_rv .null f = f := rfl
theorem jx_rv_q {r : Option Nat} {f : Option jx_R} : jx_rv (va_rf r) f = f := by cases r <;> rfl
theorem jx_ov_s {α : Type} {a : α} {f : α → Option jx_R} : jx_ov (some a) f = f a := rfl
theorem jx_ov_n {α : Type} {f : α → Option jx_R} : jx_ov none f = none := rfl
theorem jx_gf_i {ci k C : Nat} {fs : List Value} {f : Value → Option jx_R} : jx_gf (.inr (C, fs)) ci k f = if C = ci then jx_ov fs[k]? f else none := rfl
theorem jx_pf_i {ci kk C : Nat} {x : Int32} {fs : List Value} {f : va_E → Option jx_R} (e : kk / 100 = 0) : jx_pf (.inr (C, fs)) ci kk (.int x) f = if C = ci then f (.inr (ci, fs.set (kk % 100) (.int x))) else none := by
  simp only [jx_pf, e]
theorem jx_pf_z {ci kk C : Nat} {x : Int32} {fs : List Value} {f : va_E → Option jx_R} (e : kk / 100 = 3) : jx_pf (.inr (C, fs)) ci kk (.int x) f = if C = ci then if x &&& 1 = x then f (.inr (ci, fs.set (kk % 100) (.int x))) else none else none := by
  simp only [jx_pf, e]
theorem jx_pf_l {ci kk C : Nat} {x : Int64} {fs : List Value} {f : va_E → Option jx_R} (e : kk / 100 = 1) : jx_pf (.inr (C, fs)) ci kk (.long x) f = if C = ci then f (.inr (ci, fs.set (kk % 100) (.long x))) else none := by
  simp only [jx_pf, e]
theorem jx_pf_r {ci kk C : Nat} {x : Nat} {fs : List Value} {f : va_E → Option jx_R} (e : kk / 100 = 2) : jx_pf (.inr (C, fs)) ci kk (.ref x) f = if C = ci then f (.inr (ci, fs.set (kk % 100) (.ref x))) else none := by
  simp only [jx_pf, e]
theorem jx_pf_n {ci kk C : Nat} {fs : List Value} {f : va_E → Option jx_R} (e : kk / 100 = 2) : jx_pf (.inr (C, fs)) ci kk .null f = if C = ci then f (.inr (ci, fs.set (kk % 100) .null)) else none := by
  simp only [jx_pf, e]
theorem jx_pf_q {ci kk C : Nat} {r : Option Nat} {fs : List Value} {f : va_E → Option jx_R} (e : kk / 100 = 2) : jx_pf (.inr (C, fs)) ci kk (va_rf r) f = if C = ci then f (.inr (ci, fs.set (kk % 100) (va_rf r))) else none := by
  cases r
  · exact jx_pf_n e
  · exact jx_pf_r e
theorem jx_ia_i {t n : Nat} {g : Nat → Int32} {j : Int32} {f : Int32 → Option jx_R} : jx_ia (.inl (t, n, .inl g)) j f = if t = 0 ∨ t = 8 then jx_ov (jx_ix j n) (fun k => f (g k)) else none := rfl
theorem jx_ba_i {t n : Nat} {g : Nat → Int32} {j : Int32} {f : Int32 → Option jx_R} : jx_ba (.inl (t, n, .inl g)) j f = if t = 1 ∨ t = 3 ∨ t = 9 then jx_ov (jx_ix j n) (fun k => f (g k)) else none := rfl
theorem jx_ja_i {n : Nat} {g : Nat → Int64} {j : Int32} {f : Int64 → Option jx_R} : jx_ja (.inl (2, n, .inr (.inl g))) j f = jx_ov (jx_ix j n) (fun k => f (g k)) := rfl
theorem jx_qa_i {t n : Nat} {g : Nat → Option Nat} {j : Int32} {f : Option Nat → Option jx_R} : jx_qa (.inl (t, n, .inr (.inr (.inr (.inr g))))) j f = if 4 ≤ t ∧ t < 8 then jx_ov (jx_ix j n) (fun k => f (g k)) else none := rfl
theorem jx_is_i {n : Nat} {g : Nat → Int32} {j v : Int32} {f : va_E → Option jx_R} : jx_is (.inl (0, n, .inl g)) j v f = jx_ov (jx_ix j n) (fun k => f (.inl (0, n, .inl (upd g k v)))) := rfl
theorem jx_bs_b {n : Nat} {g : Nat → Int32} {j v : Int32} {f : va_E → Option jx_R} : jx_bs (.inl (1, n, .inl g)) j v f = jx_ov (jx_ix j n) (fun k => f (.inl (1, n, .inl (upd g k v.toInt8.toInt32)))) := rfl
theorem jx_bs_z {n : Nat} {g : Nat → Int32} {j v : Int32} {f : va_E → Option jx_R} : jx_bs (.inl (3, n, .inl g)) j v f = jx_ov (jx_ix j n) (fun k => f (.inl (3, n, .inl (upd g k (v &&& 1))))) := rfl
theorem jx_js_i {n : Nat} {g : Nat → Int64} {j : Int32} {v : Int64} {f : va_E → Option jx_R} : jx_js (.inl (2, n, .inr (.inl g))) j v f = jx_ov (jx_ix j n) (fun k => f (.inl (2, n, .inr (.inl (vp_updL g k v))))) := rfl
theorem jx_qs_i {t n ci v : Nat} {g : Nat → Option Nat} {fs : List Value} {j : Int32} {f : va_E → Option jx_R} : jx_qs (.inl (t, n, .inr (.inr (.inr (.inr g))))) (.inr (ci, fs)) j v f = if 4 ≤ t ∧ t < 8 ∧ ci = jx_et t then jx_ov (jx_ix j n) (fun k => f (.inl (t, n, .inr (.inr (.inr (.inr (va_up g k (some v)))))))) else none := rfl
theorem jx_al_i {t n : Nat} {x : (Nat → Int32) ⊕ (Nat → Int64) ⊕ (Nat → UInt32) ⊕ (Nat → UInt64) ⊕ (Nat → Option Nat)} {f : Int32 → Option jx_R} : jx_al (.inl (t, n, x)) f = if t < 10 then f (Int32.ofNat n) else none := rfl
theorem jx_cp_i {n0 n1 : Nat} {g g1 : Nat → Int32} {sp dp n : Int32} {f : va_E → Option jx_R} : jx_cp (.inl (0, n0, .inl g)) (.inl (0, n1, .inl g1)) sp dp n f = if 0 ≤ n.toInt ∧ 0 ≤ sp.toInt ∧ 0 ≤ dp.toInt ∧ sp.toInt + n.toInt ≤ (n0 : Int) ∧ dp.toInt + n.toInt ≤ (n1 : Int) then f (.inl (0, n1, .inl (va_cpy g g1 sp.toNatClampNeg dp.toNatClampNeg n.toNatClampNeg))) else none := rfl
theorem jx_put_at {a : Nat} {x : va_E} {k : Nat} : (jx_put h a x).1 k = if k = a then x else h.1 k := rfl
theorem jx_put_sz {a : Nat} {x : va_E} : (jx_put h a x).2 = h.2 := rfl
theorem jx_new_at {x : va_E} {n k : Nat} : (jx_new h x n).1 k = if k = h.2.1 then x else h.1 k := rfl
theorem jx_new_sz {x : va_E} {n : Nat} : (jx_new h x n).2 = (h.2.1 + 1, h.2.2 + n) := rfl
theorem jx_ix_n {k n : Nat} (hk : k < 2 ^ 31) : jx_ix (nI k) n = if k < n then some k else none := by
  unfold jx_ix
  rw [nI_toInt hk, nI_clamp hk]
  by_cases h : k < n
  · rw [if_pos h, if_pos ⟨by omega, by omega⟩]
  · rw [if_neg h, if_neg (by omega)]
theorem jx_ix_l (i : Int32) (k : Nat) {n : Nat} (hk : i.toInt = k) : jx_ix i n = if k < n then some k else none := by
  have hc : i.toNatClampNeg = i.toInt.toNat := rfl
  unfold jx_ix
  rw [hc, hk]
  by_cases h : k < n
  · rw [if_pos h, if_pos ⟨by omega, by omega⟩]; rfl
  · rw [if_neg h, if_neg (by omega)]
def jx_ns (v : Value) : Bool := !jx_is2 v && !jx_mk v
theorem jx_ns_i {x : Int32} : jx_ns (.int x) = true := rfl
theorem jx_ns_r {x : Nat} : jx_ns (.ref x) = true := rfl
theorem jx_ns_n : jx_ns .null = true := rfl
theorem jx_ns_q {r : Option Nat} : jx_ns (va_rf r) = true := by cases r <;> rfl
theorem jx_2_i {x : Int32} : jx_is2 (.int x) = false := rfl
theorem jx_2_l {x : Int64} : jx_is2 (.long x) = true := rfl
theorem jx_2_r {x : Nat} : jx_is2 (.ref x) = false := rfl
theorem jx_2_n : jx_is2 .null = false := rfl
theorem jx_2_u : jx_is2 jx_un = false := rfl
theorem jx_2_s : jx_is2 jx_sn = false := rfl
theorem jx_2_q {r : Option Nat} : jx_is2 (va_rf r) = false := by cases r <;> rfl
theorem jx_k_i {x : Int32} : jx_mk (.int x) = false := rfl
theorem jx_k_l {x : Int64} : jx_mk (.long x) = false := rfl
theorem jx_k_r {x : Nat} : jx_mk (.ref x) = false := rfl
theorem jx_k_n : jx_mk .null = false := rfl
theorem jx_k_u : jx_mk jx_un = false := rfl
theorem jx_k_s : jx_mk jx_sn = true := rfl
theorem jx_k_q {r : Option Nat} : jx_mk (va_rf r) = false := by cases r <;> rfl
theorem jx_la_f {sh : List Bool} {v : Value} {r : List Value} (e : jx_ns v = true) : jx_la (false :: sh) (v :: r) = (jx_la sh r).map (fun t => v :: t) := by
  simp only [jx_ns, Bool.and_eq_true, Bool.not_eq_true'] at e
  simp [jx_la, e.1, e.2]
theorem jx_la_t {sh : List Bool} {x : Int64} {r : List Value} : jx_la (true :: sh) (.long x :: r) = (jx_la sh r).map (fun t => .long x :: jx_sn :: t) := rfl
theorem jx_la_n : jx_la [] [] = some [] := rfl
end XF
theorem xZ : ((1 : Int32) &&& 1 = 1) ∧ ((0 : Int32) &&& 1 = 0) := ⟨by decide, by decide⟩
/-! THE SAME WITH NAMED CONTINUATIONS: simp does not walk under a lambda -/
noncomputable def jkI (d y : Nat) (c : List Instr) (ls st : List Value) (h : jx_H) (x : Int32) : Option jx_R := jx_ev d y c ls (.int x :: st) h
noncomputable def jkL (d y : Nat) (c : List Instr) (ls st : List Value) (h : jx_H) (x : Int64) : Option jx_R := jx_ev d y c ls (.long x :: st) h
noncomputable def jkV (d y : Nat) (c : List Instr) (ls st : List Value) (h : jx_H) (v : Value) : Option jx_R := jx_ev d y c ls (v :: st) h
noncomputable def jkQ (d y : Nat) (c : List Instr) (ls st : List Value) (h : jx_H) (r : Option Nat) : Option jx_R := jx_ev d y c ls (va_rf r :: st) h
noncomputable def jkP (d y : Nat) (c : List Instr) (ls st : List Value) (h : jx_H) (a : Nat) (x : va_E) : Option jx_R := jx_ev d y c ls st (jx_put h a x)
noncomputable def jkC (d y : Nat) (c : List Instr) (ls st : List Value) (h : jx_H) (k : Nat) (n : Int) (x : Int32) : Option jx_R := jx_ev d y c (jx_s1 ls k (.int (x + Int32.ofInt n))) st h
noncomputable def jkT (d y : Nat) (ls st : List Value) (h : jx_H) (L : Int) : Option jx_R := jx_eb d y L.toNat ls st h
noncomputable def jkD (d y : Nat) (c : List Instr) (ls st : List Value) (h : jx_H) (z b : Nat) (v : Value) (ci : Nat) : Option jx_R := jx_cc d y c ls st 1 (jx_cr d (jx_dt (z / 10) ci) [.ref b, v] h)
noncomputable def jkA {α : Type} (f : α → Option jx_R) (g : Nat → α) (k : Nat) : Option jx_R := f (g k)
noncomputable def jkS (t n : Nat) (g : Nat → Int32) (v : Int32) (f : va_E → Option jx_R) (k : Nat) : Option jx_R := f (.inl (t, n, .inl (upd g k v)))
noncomputable def jkJ (n : Nat) (g : Nat → Int64) (v : Int64) (f : va_E → Option jx_R) (k : Nat) : Option jx_R := f (.inl (2, n, .inr (.inl (vp_updL g k v))))
noncomputable def jkR (t n : Nat) (g : Nat → Option Nat) (v : Nat) (f : va_E → Option jx_R) (k : Nat) : Option jx_R := f (.inl (t, n, .inr (.inr (.inr (.inr (va_up g k (some v)))))))
section XK
variable {d y : Nat} {c : List Instr} {ls st : List Value} {h : jx_H} {z b k : Nat} {v1 v : Value} {j x n sp dp : Int32} {i : Int} {p : Int64} {q : Option Nat} {e : va_E} {α : Type}
theorem ak_I : jkI d y c ls st h x = jx_ev d y c ls (.int x :: st) h := rfl
theorem ak_L : jkL d y c ls st h p = jx_ev d y c ls (.long p :: st) h := rfl
theorem ak_V : jkV d y c ls st h v = jx_ev d y c ls (v :: st) h := rfl
theorem ak_Q : jkQ d y c ls st h q = jx_ev d y c ls (va_rf q :: st) h := rfl
theorem ak_P : jkP d y c ls st h b e = jx_ev d y c ls st (jx_put h b e) := rfl
theorem ak_C : jkC d y c ls st h k i x = jx_ev d y c (jx_s1 ls k (.int (x + Int32.ofInt i))) st h := rfl
theorem ak_T : jkT d y ls st h i = jx_eb d y i.toNat ls st h := rfl
theorem ak_D : jkD d y c ls st h z b v k = jx_cc d y c ls st 1 (jx_cr d (jx_dt (z / 10) k) [.ref b, v] h) := rfl
theorem ak_A {f : α → Option jx_R} {g : Nat → α} : jkA f g k = f (g k) := rfl
theorem ak_S {t n : Nat} {g : Nat → Int32} {f : va_E → Option jx_R} : jkS t n g x f k = f (.inl (t, n, .inl (upd g k x))) := rfl
theorem ak_J {n : Nat} {g : Nat → Int64} {f : va_E → Option jx_R} : jkJ n g p f k = f (.inl (2, n, .inr (.inl (vp_updL g k p)))) := rfl
theorem ak_R {t n : Nat} {g : Nat → Option Nat} {f : va_E → Option jx_R} : jkR t n g b f k = f (.inl (t, n, .inr (.inr (.inr (.inr (va_up g k (some b))))))) := rfl
theorem xk_iload : jx_ev d y (.iload k :: c) ls st h = jx_iv (jx_gl ls k) (jkI d y c ls st h) := xe_iload
theorem xk_lload : jx_ev d y (.lload k :: c) ls st h = jx_lv (jx_gl ls k) (jkL d y c ls st h) := xe_lload
theorem xk_iinc : jx_ev d y (.iinc k i :: c) ls st h = jx_iv (jx_gl ls k) (jkC d y c ls st h k i) := xe_iinc
theorem xk_getf {ci : Nat} : jx_ev d y (.invokeinterface ci k :: c) ls (.ref b :: st) h = jx_gf (h.1 b) ci k (jkV d y c ls st h) := xe_getf
theorem xk_putf {ci : Nat} : jx_ev d y (.multianewarray ci k :: c) ls (v :: .ref b :: st) h = jx_pf (h.1 b) ci k v (jkP d y c ls st h b) := xe_putf
theorem xk_iald : jx_ev d y (.iaload :: c) ls (.int j :: .ref b :: st) h = jx_ia (h.1 b) j (jkI d y c ls st h) := xe_iald
theorem xk_bald : jx_ev d y (.baload :: c) ls (.int j :: .ref b :: st) h = jx_ba (h.1 b) j (jkI d y c ls st h) := xe_bald
theorem xk_lald : jx_ev d y (.laload :: c) ls (.int j :: .ref b :: st) h = jx_ja (h.1 b) j (jkL d y c ls st h) := xe_lald
theorem xk_qald : jx_ev d y (.aaload :: c) ls (.int j :: .ref b :: st) h = jx_qa (h.1 b) j (jkQ d y c ls st h) := xe_qald
theorem xk_iast : jx_ev d y (.iastore :: c) ls (.int x :: .int j :: .ref b :: st) h = jx_is (h.1 b) j x (jkP d y c ls st h b) := xe_iast
theorem xk_bast : jx_ev d y (.bastore :: c) ls (.int x :: .int j :: .ref b :: st) h = jx_bs (h.1 b) j x (jkP d y c ls st h b) := xe_bast
theorem xk_last : jx_ev d y (.lastore :: c) ls (.long p :: .int j :: .ref b :: st) h = jx_js (h.1 b) j p (jkP d y c ls st h b) := xe_last
theorem xk_qast : jx_ev d y (.aastore :: c) ls (.ref k :: .int j :: .ref b :: st) h = jx_qs (h.1 b) (h.1 k) j k (jkP d y c ls st h b) := xe_qast
theorem xk_alen : jx_ev d y (.arraylength :: c) ls (.ref b :: st) h = jx_al (h.1 b) (jkI d y c ls st h) := xe_alen
theorem xk_copy : jx_ev d y (.monitorexit :: c) ls (.int n :: .int dp :: .ref b :: .int sp :: .ref k :: st) h = if st.length ≤ 4 then jx_cp (h.1 k) (h.1 b) sp dp n (jkP d y c ls st h b) else none := xe_copy
theorem xk_table {dflt lo hi : Int} {offs : Array Int} : jx_ev d y (.tableswitch dflt lo hi offs :: c) ls (.int x :: st) h = if x.toInt < lo ∨ hi < x.toInt then jx_eb d y dflt.toNat ls st h else jx_ov (offs[(x.toInt - lo).toNat]?) (jkT d y ls st h) := xe_table
theorem xk_dsp1 (hz : z % 10 = 1) (h4 : st.length ≤ 4) : jx_ev d y (.fload z :: c) ls (v1 :: .ref b :: st) h = jx_cl8 (h.1 b) (jkD d y c ls st h z b v1) := xe_dsp1 hz h4
theorem ja_ia {t n : Nat} {g : Nat → Int32} {f : Int32 → Option jx_R} : jx_ia (.inl (t, n, .inl g)) j f = if t = 0 ∨ t = 8 then jx_ov (jx_ix j n) (jkA f g) else none := rfl
theorem ja_ba {t n : Nat} {g : Nat → Int32} {f : Int32 → Option jx_R} : jx_ba (.inl (t, n, .inl g)) j f = if t = 1 ∨ t = 3 ∨ t = 9 then jx_ov (jx_ix j n) (jkA f g) else none := rfl
theorem ja_ja {n : Nat} {g : Nat → Int64} {f : Int64 → Option jx_R} : jx_ja (.inl (2, n, .inr (.inl g))) j f = jx_ov (jx_ix j n) (jkA f g) := rfl
theorem ja_qa {t n : Nat} {g : Nat → Option Nat} {f : Option Nat → Option jx_R} : jx_qa (.inl (t, n, .inr (.inr (.inr (.inr g))))) j f = if 4 ≤ t ∧ t < 8 then jx_ov (jx_ix j n) (jkA f g) else none := rfl
theorem ja_is {n : Nat} {g : Nat → Int32} {v : Int32} {f : va_E → Option jx_R} : jx_is (.inl (0, n, .inl g)) j v f = jx_ov (jx_ix j n) (jkS 0 n g v f) := rfl
theorem ja_bsb {n : Nat} {g : Nat → Int32} {v : Int32} {f : va_E → Option jx_R} : jx_bs (.inl (1, n, .inl g)) j v f = jx_ov (jx_ix j n) (jkS 1 n g v.toInt8.toInt32 f) := rfl
theorem ja_bsz {n : Nat} {g : Nat → Int32} {v : Int32} {f : va_E → Option jx_R} : jx_bs (.inl (3, n, .inl g)) j v f = jx_ov (jx_ix j n) (jkS 3 n g (v &&& 1) f) := rfl
theorem ja_js {n : Nat} {g : Nat → Int64} {v : Int64} {f : va_E → Option jx_R} : jx_js (.inl (2, n, .inr (.inl g))) j v f = jx_ov (jx_ix j n) (jkJ n g v f) := rfl
theorem ja_qs {t n ci v : Nat} {g : Nat → Option Nat} {fs : List Value} {f : va_E → Option jx_R} : jx_qs (.inl (t, n, .inr (.inr (.inr (.inr g))))) (.inr (ci, fs)) j v f = if 4 ≤ t ∧ t < 8 ∧ ci = jx_et t then jx_ov (jx_ix j n) (jkR t n g v f) else none := rfl
end XK
