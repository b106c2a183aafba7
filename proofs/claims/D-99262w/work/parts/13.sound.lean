/-! SOUNDNESS: what the abstract machine comes to, the machine does -/
theorem jx_sa_gr {i : Instr} {ls st ls' st' : List Value} {h h' : jx_H} (e : jx_sa i ls st h = some (.inl (ls', st', h'))) : h' = h := by
  cases i <;> simp only [jx_sa, jx_i2, jx_l2, jx_nx] at e <;> (repeat' split at e) <;> cases e <;> rfl
theorem jx_sb_gr {i : Instr} {ls st ls' st' : List Value} {h h' : jx_H} (e : jx_sb i ls st h = some (.inl (ls', st', h'))) : h' = h := by
  unfold jx_sb at e
  repeat' split at e
  all_goals (try simp only [jx_c1, jx_c2, jx_nx, jx_jp, jx_rt, jx_th] at e)
  all_goals (repeat' split at e)
  all_goals (cases e)
  all_goals rfl
theorem jx_sc_gr {dt : Nat → Nat → Nat} {i : Instr} {ls st ls' st' : List Value} {h h' : jx_H} (e : jx_sc dt i ls st h = some (.inl (ls', st', h'))) : jx_gr h h' := by
  unfold jx_sc at e
  repeat' split at e
  all_goals (try simp only [jx_ar, jx_nx, jx_cl] at e)
  all_goals (repeat' split at e)
  all_goals (cases e)
  all_goals (first | exact ⟨Nat.le_refl _, Nat.le_refl _⟩ | exact ⟨Nat.le_succ _, Nat.le_add_right _ _⟩)
theorem jx_st_gr {dt : Nat → Nat → Nat} {i : Instr} {ls st ls' st' : List Value} {h h' : jx_H} (e : jx_st dt i ls st h = some (.inl (ls', st', h'))) : jx_gr h h' := by
  unfold jx_st at e
  split at e
  · rename_i a h1; cases e; rw [jx_sa_gr h1]; exact ⟨Nat.le_refl _, Nat.le_refl _⟩
  · split at e
    · rename_i a h1; cases e; rw [jx_sb_gr h1]; exact ⟨Nat.le_refl _, Nat.le_refl _⟩
    · exact jx_sc_gr e
theorem jx_ex_gr {P : jx_P} : ∀ (f d y : Nat) (c : List Instr) (ls st : List Value) (h : jx_H) (res : Option Value ⊕ Unit) (hf : jx_H), jx_ex P f d y c ls st h = some (res, hf) → jx_gr h hf := by
  intro f
  induction f with
  | zero => intro d y c ls st h res hf e; cases e
  | succ f ih =>
    intro d y c ls st h res hf e
    simp only [jx_ex] at e
    split at e
    · cases e
    · split at e
      · cases e
      · rename_i h1
        have h2 := ih _ _ _ _ _ _ _ _ e
        have h3 := jx_st_gr h1
        exact ⟨Nat.le_trans h3.1 h2.1, Nat.le_trans h3.2 h2.2⟩
      · exact ih _ _ _ _ _ _ _ _ e
      · split at e
        · split at e
          · cases e
          · rename_i h1
            have h2 := ih _ _ _ _ _ _ _ _ e
            have h3 := ih _ _ _ _ _ _ _ _ h1
            exact ⟨Nat.le_trans h3.1 h2.1, Nat.le_trans h3.2 h2.2⟩
          · rename_i h1
            have h3 := ih _ _ _ _ _ _ _ _ h1
            split at e
            · split at e
              · cases e
              · cases e; exact h3
            · split at e
              · cases e
              · have h2 := ih _ _ _ _ _ _ _ _ e
                exact ⟨Nat.le_trans h3.1 h2.1, Nat.le_trans h3.2 h2.2⟩
        · cases e
      · cases e; exact ⟨Nat.le_refl _, Nat.le_refl _⟩
def jx_RT (T : jx_T) (y : Nat) (v : Option Value) (pc : Nat) : Prop :=
  (∃ x ty, v = some (.int x) ∧ decode (T.2.1 y) pc = .ok (.ireturn, 1) ∧ T.2.2.2.1 y = some ty ∧ narrow ty (.int x) = .int x) ∨ (∃ x, v = some (.long x) ∧ decode (T.2.1 y) pc = .ok (.lreturn, 1) ∧ T.2.2.2.1 y = some .long) ∨
  (∃ u ty, v = some u ∧ (u = .null ∨ ∃ k, 3 ≤ k ∧ u = .ref k) ∧ decode (T.2.1 y) pc = .ok (.areturn, 1) ∧ T.2.2.2.1 y = some ty ∧ ((∃ n, ty = .object n) ∨ ∃ t, ty = .array t)) ∨ (v = none ∧ decode (T.2.1 y) pc = .ok (.return_, 1) ∧ T.2.2.2.1 y = none)
def jx_IH (l : Launch) (w : jx_W) (T : jx_T) (P : jx_P) (f : Nat) : Prop := ∀ (d y : Nat) (c : List Instr) (ls st : List Value) (h : jx_H) (res : Option Value ⊕ Unit) (hf : jx_H), jx_ex P f d y c ls st h = some (res, hf) →
  ∀ (p : Program) (e : Env) (R : Room) (s : State) (m : MethodId) (args : Array Value) (below : List Frame) (meth : Method) (cd : Code) (A : Nat → Prop) (ad : Nat → Nat) (H : Heap) (locs : List Loc) (cells slots : Nat) (Q : State → Prop) (pc : Nat) (lm : Array Slot),
  CallFix p m cd (T.2.1 y) (T.2.2.1 y) s args lw_all (T.1 y).cls → jx_G w ad A s s.heap → (∀ q, s.heap.size ≤ q → A q) → jx_At w ad A s h H locs → jx_Ok w T P y pc c → jx_lr w.2.2.1 ad (T.2.2.1 y) ls lm → jx_vs h.2.1 ls → jx_vs h.2.1 st →
  (((T.1 y).name == "<init>") = true → meth.name = "<init>") → cd.exceptionTable.toList = tableOf (T.2.2.2.2.1 y) → d + 1 ≤ R.frames → 64 * (d + 1) ≤ R.locals → cells + hf.2.1 ≤ R.cells + h.2.1 → slots + hf.2.2 ≤ R.slots + h.2.2 →
  (∀ (v : Option Value) (ad' : Nat → Nat) (H' : Heap) (locs' : List Loc) (cells' slots' pc' : Nat) (lm' : Array Slot), res = .inl v → (∀ j, j < h.2.1 → ad' j = ad j) → jx_At w ad' A s hf H' locs' → cells' + h.2.1 = cells + hf.2.1 → slots' + h.2.2 = slots + hf.2.2 → jx_RT T y v pc' → (∀ u, v = some u → jx_vk hf.2.1 u) →
    W p l e R s m args below meth cd H' locs' cells' slots' Q (F0 m pc' lm' (v.toList.map (jx_rl w.2.2.1 ad')))) →
  (∀ (ad' : Nat → Nat) (H' : Heap) (locs' : List Loc) (cells' slots' pc' : Nat) (lm' : Array Slot) (rest : List Value) (q : Nat) (ce : Cell), res = .inr () → (∀ j, j < h.2.1 → ad' j = ad j) → jx_At w ad' A s hf H' locs' → cells' + h.2.1 = cells + hf.2.1 → slots' + h.2.2 = slots + hf.2.2 → T.2.2.2.2.1 y = [] → H'[q]? = some ce → ce.vm = .none → s.vm.findClass "SpoonCourt$Fault" = some ce.cls →
    vx_W p l e R s m args below meth cd H' locs' cells' slots' Q (F0 m pc' lm' rest) q) →
  W p l e R s m args below meth cd H locs cells slots Q (F0 m pc lm (st.map (jx_rl w.2.2.1 ad)))
def jx_rm (d : Nat) (h h1 : jx_H) : Room := { frames := d + 1, cells := h1.2.1 - h.2.1, slots := h1.2.2 - h.2.2, locals := 64 * (d + 1) }
/-- a contract out of a walk of the body, with handlers or without -/
theorem jx_ofW {l : Launch} {T : jx_T} {y : Nat} {rm : Room} {Pc : Array Value → State → Prop} {Z : Array Value → State → Outcome → State → Prop} (hy : plainName (T.1 y).cls = true)
    (body : ∀ p e s m args below meth c s₁, BodyLoose p l (T.1 y) (headSpec (jx_wd T y :: lw_all) rm) (T.2.1 y) (T.2.2.1 y) (T.2.2.2.1 y) e s m args below meth c s₁ → c.maxLocals = T.2.2.1 y → c.exceptionTable.toList = tableOf (T.2.2.2.2.1 y) → Pc args s →
      W p l e rm s m args below meth c s.heap [] 0 0 (fun t => ∃ o, t.status = .running ∧ Ended t below o ∧ Z args s o t) (entryFrame m args (T.2.2.1 y))) : MetFree l (T.1 y) (headSpec (jx_wd T y :: lw_all) rm) Pc (fun _ _ _ _ _ => True) Z := by
  refine MetFree.of_bodyS (code := T.2.1 y) (maxLocals := T.2.2.1 y) (ret := T.2.2.2.1 y) hy ?_ ?_
  · intro args s m h hn
    have hw0 : (jx_wd T y).before args s = true := atoms_spec (ws := jx_wd T y :: lw_all) h _ List.mem_cons_self
    unfold jx_wd at hw0
    split at hw0
    · obtain ⟨meth, c, h1, h2, h3, h4, h5, h6, -, -⟩ := Cond.code_spec hn hw0
      exact ⟨meth, c, h1, h2, h3, h4, h5, h6⟩
    · obtain ⟨m9, meth, c, hn9, h1, h2, h3, h4, -, h5, h6, -⟩ := Cond.codeWith_spec hw0
      cases hn.symm.trans hn9
      exact ⟨meth, c, h1, h2, h3, h4, h5, h6⟩
  · intro p e s m args below meth c s₁ B hml hP _
    have hh0 : s₁.heap = s.heap := by rw [B.state]; rfl
    have ht : c.exceptionTable.toList = tableOf (T.2.2.2.2.1 y) := by
      have hw0 : (jx_wd T y).before args s = true := atoms_spec (ws := jx_wd T y :: lw_all) B.pre _ List.mem_cons_self
      unfold jx_wd at hw0
      split at hw0
      · rename_i e0
        obtain ⟨meth9, c9, h1, h2, -, -, -, -, h7, -⟩ := Cond.code_spec B.named hw0
        cases Option.some.inj (h1.symm.trans B.method)
        cases Option.some.inj (h2.symm.trans (Stand.of_body B).code)
        rw [Array.isEmpty_iff.mp h7, e0]
        rfl
      · exact vx_table (x := T.1 y) B hw0
    obtain ⟨t, a1, o, b1, b2, b3⟩ := body p e s m args below meth c s₁ B hml ht hP s₁ hh0 (Stand.of_body B)
    exact ⟨t, o, a1, b1, b2, b3⟩

section JXC
variable {p : Program} {l : Launch} {e : Env} {R : Room} {s : State} {m : MethodId} {args : Array Value} {below : List Frame} {meth : Method} {c : Code} {H : Heap} {locs : List Loc} {cells slots : Nat} {Q : State → Prop}
variable {cc : ByteArray} {pc nL : Nat} {lm : Array Slot} {A : Nat → Prop} {w : jx_W} {ad : Nat → Nat} {O : String} {h h1 : jx_H}
theorem jx_inA (K : jx_At w ad A s h H locs) (hA : ∀ q, s.heap.size ≤ q → A q) : ∀ q, va_A (jx_ws w.2.1 w.2.2.1 ad h) H.size q → A q := by
  intro q hq
  rcases hq with ⟨k, e, hk⟩ | hq
  · exact K.2.1.2 k _ hk
  · exact hA q (Nat.le_trans K.2.2.1.1 hq)
theorem jx_keep {t T' : State} {st₀ : State} {L : List Loc} {ad' : Nat → Nat} (K : jx_At w ad A s h H locs) (hA : ∀ q, s.heap.size ≤ q → A q) (h0 : st₀.heap = H) (e1 : T'.heap = t.heap) (hL : ∀ q ∈ L, va_A (jx_ws w.2.1 w.2.2.1 ad h) H.size q.base) (hF : va_F (va_A (jx_ws w.2.1 w.2.2.1 ad h) H.size) st₀ t) (hO : jx_Out w ad h h1 H.size ad' t) : jx_At w ad' A s h1 T'.heap (locs ++ L) := by
  have hin := jx_inA K hA
  obtain ⟨k1, k2, k3⟩ := vx_keep h0 e1 K.2.2.1 (fun q _ => hin q) hin hL hF
  exact ⟨by rw [e1]; exact hO.2.1, hO.2.2.1.weaken (fun k q _ hq => hin q.1 hq), k3, hO.2.2.2⟩
theorem jx_go {a : Array Value} {v : Option Value} {mc ms : Nat} {st0 rest : List Value} (hr : va_Run p l e R s m args below meth c H locs cells slots mc ms (F0 m pc lm st0) rest (jx_Qr w ad h h1 v H.size a) (va_A (jx_ws w.2.1 w.2.2.1 ad h) H.size)) (K : jx_At w ad A s h H locs) (hA : ∀ q, s.heap.size ≤ q → A q)
    (k : ∀ (ad' : Nat → Nat) (H' : Heap) (locs' : List Loc), (∀ j, j < h.2.1 → ad' j = ad j) → jx_At w ad' A s h1 H' locs' → (∀ u, v = some u → jx_vk h1.2.1 u) → W p l e R s m args below meth c H' locs' (cells + mc) (slots + ms) Q (F0 m (pc + 3) lm ((v.map (jx_rl w.2.2.1 ad')).toList ++ rest))) : W p l e R s m args below meth c H locs cells slots Q (F0 m pc lm st0) := by
  intro T hT X
  obtain ⟨v9, st₀, t, T', L, h0, X', hL, e1, e2, ⟨⟨ad', hv, hO, hc⟩, hF⟩, st⟩ := hr T hT X
  cases hv
  have K' := jx_keep K hA h0 e1 hL hF hO
  obtain ⟨t2, a1, b1⟩ := k ad' T'.heap (locs ++ L) hO.1 K' hc T' rfl X'
  exact ⟨t2, st t2 a1, b1⟩
theorem jx_gox {mc ms : Nat} {st0 rest : List Value} {XC : String → State → State → Prop} (hXC : XC = jx_Xr w ad h h1 H.size) (hr : vx_Run p l e R s m args below meth c H locs cells slots mc ms (F0 m pc lm st0) rest (fun _ _ _ => False) XC (va_A (jx_ws w.2.1 w.2.2.1 ad h) H.size)) (K : jx_At w ad A s h H locs) (hA : ∀ q, s.heap.size ≤ q → A q)
    (k : ∀ (ad' : Nat → Nat) (H' : Heap) (locs' : List Loc) (q : Nat) (ce : Cell), (∀ j, j < h.2.1 → ad' j = ad j) → jx_At w ad' A s h1 H' locs' → H'[q]? = some ce → ce.vm = .none → s.vm.findClass "SpoonCourt$Fault" = some ce.cls → vx_W p l e R s m args below meth c H' locs' (cells + mc) (slots + ms) Q (F0 m pc lm rest) q) : W p l e R s m args below meth c H locs cells slots Q (F0 m pc lm st0) := by
  subst hXC
  intro T hT X
  rcases hr T hT X with ⟨v9, st₀, t, T', L, h0, X', hL, e1, e2, hf, st⟩ | ⟨q, st₀, t, T', L, E, ce, h0, X', hL, e1, e2, ⟨rfl, ⟨ad', hO⟩, hF⟩, hce, hcv, hcl, st⟩
  · exact absurd hf id
  · have K' := jx_keep K hA h0 e1 hL hF hO
    obtain ⟨t2, a1, b1⟩ := k ad' T'.heap (locs ++ L) q ce hO.1 K' (by rw [e1]; exact hce) hcv hcl T' rfl X'
    exact ⟨t2, st.trans a1, b1⟩
end JXC
theorem jx_good {T : jx_T} {y : Nat} (h : jx_wd T y ∈ lw_all) : GoodIn lw_all (jx_wd T y :: lw_all) := by
  intro q hq
  rcases List.mem_cons.mp hq with e | e
  · rw [e]; exact lw_self _ h
  · exact lw_self _ e
/-- a callee's contract: it returns -/
theorem jx_met {l : Launch} {w : jx_W} {T : jx_T} {P : jx_P} {f : Nat} (IH : jx_IH l w T P f) (hp : jx_Prog w T P) {d z n : Nat} {vs l0 : List Value} {h h1 : jx_H} {v : Option Value} {ad : Nat → Nat} (hM : jx_M T z n) (hl0 : P.2.1 z vs = some l0) (hx : jx_ex P f d z (P.1 z 0) l0 [] h = some (.inl v, h1)) (hvs : jx_vs h.2.1 vs) (hw : jx_wf w.2.2.2.1 h) (sz : Nat) :
    Met l (T.1 z) (jx_wd T z :: lw_all) (jx_rm d h h1) (jx_Pc w ad h vs sz) (jx_Qr w ad h h1 v sz) (h1.2.1 - h.2.1) (h1.2.2 - h.2.2) (va_A (jx_ws w.2.1 w.2.2.1 ad h) sz) := by
  have hgr := jx_ex_gr _ _ _ _ _ _ _ _ _ hx
  refine jx_ofW (Z := fun a st o t => jx_Qr w ad h h1 v sz a st o t ∧ ∃ L, FrameEnd st o t L (h1.2.1 - h.2.1) (h1.2.2 - h.2.2) ∧ ∀ q ∈ L, va_A (jx_ws w.2.1 w.2.2.1 ad h) sz q.base) hM.1 ?_
  intro p e s m args below meth c s₁ B hml htab hv
  obtain ⟨rfl, rfl, hP, hD0, G⟩ := hv
  have hts : ∀ q ∈ lw_all, q.before (vs.map (jx_rl w.2.2.1 ad)).toArray s = true := fun q hq => atoms_spec (ws := jx_wd T z :: lw_all) B.pre q (List.mem_cons_of_mem _ hq)
  have hown : s.vm.findClass (T.1 z).cls = some m.cls := findClass_of_methodNamed B.named
  have hlocks := B.notSynchronized
  have hrv := G.2.2.2.2.2.2
  have hle : P.2.1 z vs = jx_le (T.2.2.2.2.2 z) (T.2.2.1 z) vs := by
    rcases hp.2.1 z vs with q | q
    · rw [hl0] at q; cases q
    · exact q
  rw [hl0] at hle
  obtain ⟨hlr, hlc⟩ := jx_le_ok hrv (ad := ad) hle.symm
  rw [lg_entry_eq]
  refine IH d z _ l0 [] h _ h1 hx p e (jx_rm d h h1) s m _ below meth c (va_A (jx_ws w.2.1 w.2.2.1 ad h) s.heap.size) ad s.heap [] 0 0 _ 0 _ ⟨B.exec, B.bytes, hml, hown, hts⟩ G (fun q hq => Or.inr hq) ⟨hP, hD0.self, va_S.rf, hw⟩ (hp.1 z 0) hlr (hlc _ hvs) jx_vs_nil
    (fun hi => by rw [(name_of_methodNamed B.named B.method).1]; exact eq_of_beq hi) htab (Nat.le_refl _) (Nat.le_refl _) ?_ ?_ ?_ ?_
  · have := hgr.1
    simp only [jx_rm]
    omega
  · have := hgr.2
    simp only [jx_rm]
    omega
  · intro v9 ad' H' locs' cells' slots' pc' lm' hres hext K' hcl hsl hRT hvk
    cases hres
    have e1 : cells' = h1.2.1 - h.2.1 := by omega
    have e2 : slots' = h1.2.2 - h.2.2 := by omega
    subst e1; subst e2
    have hQ : ∀ t : State, t.heap = H' → s.WarmedH t.vm → jx_Qr w ad h h1 v s.heap.size (vs.map (jx_rl w.2.2.1 ad)).toArray s (.returned (v.map (jx_rl w.2.2.1 ad'))) t := by
      intro t ht hW
      exact ⟨⟨ad', rfl, ⟨hext, by rw [ht]; exact K'.1, K'.2.1, K'.2.2.2⟩, hvk⟩, K'.2.2.1.F ht⟩
    rcases hRT with ⟨x, ty, rfl, hd, hty, hn⟩ | ⟨x, rfl, hd, hty⟩ | ⟨u, ty, rfl, hu, hd, hty, hob⟩ | ⟨rfl, hd, hty⟩
    · exact W.zret (ty := ty) B.exec B.bytes (B.returns.trans hty) hn hQ K'.2.2.1.2.2 hd
    · exact W.lret B.exec B.bytes (B.returns.trans hty) hQ K'.2.2.1.2.2 hd
    · have hu2 : jx_rl w.2.2.1 ad' u = .null ∨ ∃ a, jx_rl w.2.2.1 ad' u = .ref a := by
        rcases hu with rfl | ⟨k, hk, rfl⟩
        · exact Or.inl rfl
        · exact Or.inr ⟨_, jx_rr_ge hk⟩
      exact W.aret B.exec B.bytes (B.returns.trans hty) hob hu2 hQ K'.2.2.1.2.2 hd
    · exact W.vret B.exec B.bytes (B.returns.trans hty) hQ K'.2.2.1.2.2 hd
  · intro ad' H' locs' cells' slots' pc' lm' rest q ce hres
    cases hres
/-- a callee's contract: it throws -/
theorem jx_metx {l : Launch} {w : jx_W} {T : jx_T} {P : jx_P} {f : Nat} (IH : jx_IH l w T P f) (hp : jx_Prog w T P) {d z n : Nat} {vs l0 : List Value} {h h1 : jx_H} {ad : Nat → Nat} (hM : jx_M T z n) (hl0 : P.2.1 z vs = some l0) (hx : jx_ex P f d z (P.1 z 0) l0 [] h = some (.inr (), h1)) (hvs : jx_vs h.2.1 vs) (hw : jx_wf w.2.2.2.1 h) (sz : Nat) :
    vx_Met l (T.1 z) (jx_wd T z :: lw_all) (jx_rm d h h1) (jx_Pc w ad h vs sz) (fun _ _ _ _ => False) (jx_Xr w ad h h1 sz) (h1.2.1 - h.2.1) (h1.2.2 - h.2.2) (va_A (jx_ws w.2.1 w.2.2.1 ad h) sz) := by
  have hgr := jx_ex_gr _ _ _ _ _ _ _ _ _ hx
  refine jx_ofW (Z := vx_Q (fun _ _ _ _ => False) (jx_Xr w ad h h1 sz) (h1.2.1 - h.2.1) (h1.2.2 - h.2.2) (va_A (jx_ws w.2.1 w.2.2.1 ad h) sz)) hM.1 ?_
  intro p e s m args below meth c s₁ B hml htab hv
  obtain ⟨rfl, rfl, hP, hD0, G⟩ := hv
  have hts : ∀ q ∈ lw_all, q.before (vs.map (jx_rl w.2.2.1 ad)).toArray s = true := fun q hq => atoms_spec (ws := jx_wd T z :: lw_all) B.pre q (List.mem_cons_of_mem _ hq)
  have hown : s.vm.findClass (T.1 z).cls = some m.cls := findClass_of_methodNamed B.named
  have hlocks := B.notSynchronized
  have hrv := G.2.2.2.2.2.2
  have hle : P.2.1 z vs = jx_le (T.2.2.2.2.2 z) (T.2.2.1 z) vs := by
    rcases hp.2.1 z vs with q | q
    · rw [hl0] at q; cases q
    · exact q
  rw [hl0] at hle
  obtain ⟨hlr, hlc⟩ := jx_le_ok hrv (ad := ad) hle.symm
  rw [lg_entry_eq]
  refine IH d z _ l0 [] h _ h1 hx p e (jx_rm d h h1) s m _ below meth c (va_A (jx_ws w.2.1 w.2.2.1 ad h) s.heap.size) ad s.heap [] 0 0 _ 0 _ ⟨B.exec, B.bytes, hml, hown, hts⟩ G (fun q hq => Or.inr hq) ⟨hP, hD0.self, va_S.rf, hw⟩ (hp.1 z 0) hlr (hlc _ hvs) jx_vs_nil
    (fun hi => by rw [(name_of_methodNamed B.named B.method).1]; exact eq_of_beq hi) htab (Nat.le_refl _) (Nat.le_refl _) ?_ ?_ ?_ ?_
  · have := hgr.1
    simp only [jx_rm]
    omega
  · have := hgr.2
    simp only [jx_rm]
    omega
  · intro v9 ad' H' locs' cells' slots' pc' lm' hres
    cases hres
  · intro ad' H' locs' cells' slots' pc' lm' rest q ce hres hext K' hcl hsl hhh hce hcv hcls
    refine vx_out (mc := h1.2.1 - h.2.1) (ms := h1.2.2 - h.2.2) (fun x hx9 => ?_) hlocks hce hcv hcls (fun t ht hW => ⟨rfl, ⟨ad', hext, by rw [ht]; exact K'.1, K'.2.1, K'.2.2.2⟩, K'.2.2.1.F ht⟩) K'.2.2.1.2.2 (by omega) (by omega)
    rw [htab, hhh] at hx9
    cases hx9
