/-! SOUNDNESS: the induction -/
theorem jx_pop_ok : ∀ (n : Nat) (st acc as r : List Value), jx_pop n st acc = some (as, r) → ∃ u : List Value, u.length = n ∧ st = u ++ r ∧ as = u.reverse ++ acc := by
  intro n
  induction n with
  | zero => intro st acc as r h; cases h; exact ⟨[], rfl, rfl, rfl⟩
  | succ n ih =>
    intro st acc as r h
    cases st with
    | nil => cases h
    | cons v st =>
      obtain ⟨u, h1, h2, h3⟩ := ih st (v :: acc) as r h
      exact ⟨v :: u, by rw [List.length_cons, h1], by rw [h2]; rfl, by rw [h3]; simp⟩
theorem jx_vs_app {n : Nat} {a b : List Value} (h : jx_vs n (a ++ b)) : jx_vs n a ∧ jx_vs n b := ⟨fun v hv => h v (List.mem_append_left _ hv), fun v hv => h v (List.mem_append_right _ hv)⟩
theorem jx_kd_no {k j : Nat} {i : Instr} (a : jx_kd i = k) (b : jx_kd i = j) (n : k ≠ j) : False := n (a.symm.trans b)
theorem jx_RI_a {w : jx_W} {T : jx_T} {P : jx_P} {y pc : Nat} {i0 i : Instr} {len : Nat} (h : jx_RI w T P y pc i0 len i) (k : jx_kd i = 0) : jx_RIa (T.1 y).cls w.2.2.2.2.2 (T.2.2.1 y) i0 len i := by
  rcases h with h | h | h | h | h
  · exact h
  · exact (jx_kd_no k (jx_kd_b h) (by decide)).elim
  · exact (jx_kd_no k (jx_kd_c h) (by decide)).elim
  · exact (jx_kd_no k (jx_kd_r h) (by decide)).elim
  · exact (jx_kd_no k (jx_kd_k h) (by decide)).elim
theorem jx_RI_b {w : jx_W} {T : jx_T} {P : jx_P} {y pc : Nat} {i0 i : Instr} {len : Nat} (h : jx_RI w T P y pc i0 len i) (k : jx_kd i = 1) : jx_RIb pc i0 len i := by
  rcases h with h | h | h | h | h
  · exact (jx_kd_no k (jx_kd_a h) (by decide)).elim
  · exact h
  · exact (jx_kd_no k (jx_kd_c h) (by decide)).elim
  · exact (jx_kd_no k (jx_kd_r h) (by decide)).elim
  · exact (jx_kd_no k (jx_kd_k h) (by decide)).elim
theorem jx_RI_c {w : jx_W} {T : jx_T} {P : jx_P} {y pc : Nat} {i0 i : Instr} {len : Nat} (h : jx_RI w T P y pc i0 len i) (k : jx_kd i = 2) : jx_RIc w.2.2.2.2.1 (T.1 y).cls ((T.1 y).name == "<init>") i0 len i := by
  rcases h with h | h | h | h | h
  · exact (jx_kd_no k (jx_kd_a h) (by decide)).elim
  · exact (jx_kd_no k (jx_kd_b h) (by decide)).elim
  · exact h
  · exact (jx_kd_no k (jx_kd_r h) (by decide)).elim
  · exact (jx_kd_no k (jx_kd_k h) (by decide)).elim
theorem jx_RI_r {w : jx_W} {T : jx_T} {P : jx_P} {y pc : Nat} {i0 i : Instr} {len : Nat} (h : jx_RI w T P y pc i0 len i) (k : jx_kd i = 3) : jx_RIr (T.2.2.2.1 y) (T.2.2.2.2.1 y) i0 len i := by
  rcases h with h | h | h | h | h
  · exact (jx_kd_no k (jx_kd_a h) (by decide)).elim
  · exact (jx_kd_no k (jx_kd_b h) (by decide)).elim
  · exact (jx_kd_no k (jx_kd_c h) (by decide)).elim
  · exact h
  · exact (jx_kd_no k (jx_kd_k h) (by decide)).elim
theorem jx_RI_k {w : jx_W} {T : jx_T} {P : jx_P} {y pc : Nat} {i0 i : Instr} {len : Nat} (h : jx_RI w T P y pc i0 len i) (k : jx_kd i = 4) : jx_RIk w P.2.2.1 T P y pc i0 len i := by
  rcases h with h | h | h | h | h
  · exact (jx_kd_no k (jx_kd_a h) (by decide)).elim
  · exact (jx_kd_no k (jx_kd_b h) (by decide)).elim
  · exact (jx_kd_no k (jx_kd_c h) (by decide)).elim
  · exact (jx_kd_no k (jx_kd_r h) (by decide)).elim
  · exact h
/-- an end -/
theorem jx_sr_ok {T : jx_T} {y pc : Nat} {i i0 : Instr} {len : Nat} {ls st : List Value} {h : jx_H} {o : Option Value ⊕ Unit} (hi : jx_sb i ls st h = some (.inr (.inr (.inr o)))) (hdg : decode (T.2.1 y) pc = .ok (i0, len)) (hR : jx_RIr (T.2.2.2.1 y) (T.2.2.2.2.1 y) i0 len i) :
    (∃ v, o = .inl v ∧ st = v.toList ∧ jx_RT T y v pc) ∨ (o = .inr () ∧ i0 = .athrow ∧ len = 1 ∧ T.2.2.2.2.1 y = [] ∧ ∃ (k : Nat) (r fs : List Value), st = .ref k :: r ∧ h.1 k = .inr (2, fs)) := by
  cases i with
  | ireturn =>
    obtain ⟨rfl, rfl, hrt⟩ := hR
    simp only [jx_sb] at hi
    split at hi
    · cases hi
      exact Or.inl ⟨_, rfl, rfl, Or.inl ⟨_, _, rfl, hdg, hrt, rfl⟩⟩
    · cases hi
  | freturn =>
    obtain ⟨rfl, rfl, hrt⟩ := hR
    simp only [jx_sb] at hi
    split at hi
    · split at hi
      · rename_i hx
        cases hi
        exact Or.inl ⟨_, rfl, rfl, Or.inl ⟨_, _, rfl, hdg, hrt, by simp only [narrow, hx]⟩⟩
      · cases hi
    · cases hi
  | dreturn =>
    obtain ⟨rfl, rfl, hrt⟩ := hR
    simp only [jx_sb] at hi
    split at hi
    · rename_i x
      split at hi
      · rename_i hx
        cases hi
        obtain ⟨n, hn, rfl⟩ : ∃ n : Nat, n < 128 ∧ x = nI n := by
          refine ⟨x.toInt.toNat, by omega, ?_⟩
          apply Int32.toInt_inj.mp
          rw [nI_toInt (by omega)]
          omega
        have key : ∀ n : Fin 128, narrow .byte (.int (nI n.val)) = .int (nI n.val) ∧ narrow .char (.int (nI n.val)) = .int (nI n.val) := by decide +kernel
        rcases hrt with hrt | hrt
        · exact Or.inl ⟨_, rfl, rfl, Or.inl ⟨_, _, rfl, hdg, hrt, (key ⟨n, hn⟩).1⟩⟩
        · exact Or.inl ⟨_, rfl, rfl, Or.inl ⟨_, _, rfl, hdg, hrt, (key ⟨n, hn⟩).2⟩⟩
      · cases hi
    · cases hi
  | lreturn =>
    obtain ⟨rfl, rfl, hrt⟩ := hR
    simp only [jx_sb] at hi
    split at hi
    · cases hi
      exact Or.inl ⟨_, rfl, rfl, Or.inr (Or.inl ⟨_, rfl, hdg, hrt⟩)⟩
    · cases hi
  | areturn =>
    obtain ⟨rfl, rfl, ty, hrt, hob⟩ := hR
    simp only [jx_sb] at hi
    split at hi
    · split at hi
      · rename_i hk
        cases hi
        exact Or.inl ⟨_, rfl, rfl, Or.inr (Or.inr (Or.inl ⟨_, _, rfl, Or.inr ⟨_, hk, rfl⟩, hdg, hrt, hob⟩))⟩
      · cases hi
    · cases hi
      exact Or.inl ⟨_, rfl, rfl, Or.inr (Or.inr (Or.inl ⟨_, _, rfl, Or.inl rfl, hdg, hrt, hob⟩))⟩
    · cases hi
  | return_ =>
    obtain ⟨rfl, rfl, hrt⟩ := hR
    simp only [jx_sb] at hi
    split at hi
    · cases hi
      exact Or.inl ⟨_, rfl, rfl, Or.inr (Or.inr (Or.inr ⟨rfl, hdg, hrt⟩))⟩
    · cases hi
  | athrow =>
    obtain ⟨rfl, rfl, hhh⟩ := hR
    simp only [jx_sb] at hi
    split at hi
    · split at hi
      · rename_i he
        cases hi
        exact Or.inr ⟨rfl, rfl, rfl, hhh, _, _, _, rfl, he⟩
      · cases hi
    · cases hi
  | _ => exact absurd hR id
theorem jx_sb_end {i : Instr} {ls st : List Value} {h : jx_H} {a : jx_A} (e : jx_sb i ls st h = some a) (hk : jx_kd i = 3) : ∃ o, a = .inr (.inr (.inr o)) := by
  cases i <;> simp only [jx_kd] at hk <;> first | (cases hk; done) | skip
  all_goals (simp only [jx_sb, jx_rt, jx_th] at e)
  all_goals (repeat' split at e)
  all_goals (cases e)
  all_goals exact ⟨_, rfl⟩
theorem jx_sc_call {dt : Nat → Nat → Nat} {i : Instr} {ls st : List Value} {h : jx_H} {a : jx_A} (e : jx_sc dt i ls st h = some a) (hk : jx_kd i = 4) : ∃ z vs st' hd, a = .inr (.inr (.inl (z, vs, st', hd))) ∧ st'.length ≤ 4 := by
  cases i <;> simp only [jx_kd] at hk <;> first | (cases hk; done) | skip
  all_goals (simp only [jx_sc, jx_cl] at e)
  all_goals (repeat' split at e)
  all_goals (first | (cases e; done) | skip)
  all_goals (rename_i q; cases e; exact ⟨_, _, _, _, rfl, q⟩)
section JXE
variable {p : Program} {l : Launch} {e : Env} {R : Room} {s : State} {m : MethodId} {args : Array Value} {below : List Frame} {meth : Method} {c : Code} {H : Heap} {locs : List Loc} {cells slots : Nat}
variable {pc : Nat} {lm : Array Slot} {A : Nat → Prop} {w : jx_W} {ad : Nat → Nat} {h h1 : jx_H} {T : jx_T} {P : jx_P}
theorem jx_recv (G : jx_G w ad A s s.heap) (K : jx_At w ad A s h H locs) {b ci : Nat} {fs : List Value} {q : String} (hb : b < h.2.1) (he : h.1 b = .inr (ci, fs)) (hs3 : ∀ b, b < 3 → ∀ q, w.2.2.2.1 b ≠ .inr q)
    (hcl : (ci = 19 ∧ q = "java/lang/String") ∨ ∃ r, jx_Cl[ci]? = some r ∧ 0 < jx_nn ci ∧ q = r.1) : 3 ≤ b ∧ ∃ cellB : Cell, H[ad b]? = some cellB ∧ cellB.vm.isStatics = false ∧ s.vm.findClass q = some cellB.cls := by
  have hw := K.2.2.2
  rcases Nat.lt_or_ge b 48 with hlt | hge
  · have hro := jx_roAt G K hlt
    have hrt := (hw.2.1 b hlt).2
    rw [← (hw.2.1 b hlt).1, he] at hrt
    rw [he] at hro
    obtain ⟨v0, -, -, g2, -, -⟩ := hro
    have hb3 : 3 ≤ b := by
      rcases Nat.lt_or_ge b 3 with q2 | q2
      · rw [(hw.2.1 b hlt).1] at he
        exact absurd he (hs3 b q2 _)
      · exact q2
    refine ⟨hb3, ?_⟩
    obtain ⟨cellV, f1, f2, f3, -⟩ := g2.kept K.2.2.1.2.1
    rcases hcl with ⟨-, rfl⟩ | ⟨r, h1, -⟩
    · exact ⟨cellV, f1, f2, f3⟩
    · rw [hrt.1] at h1
      simp [jx_Cl] at h1
  · have hok := hw.2.2 b hge hb
    rw [he] at hok
    refine ⟨jx_48 hge, ?_⟩
    rcases hcl with ⟨rfl, -⟩ | ⟨r, h1, -, rfl⟩
    · exact absurd hok.1 (by decide)
    · exact va_recv G.1 K.1 h1 (jx_ws_at (cA := w.2.1) (rv := w.2.2.1) (ad := ad) hge hb |>.trans (by rw [he]; rfl))
theorem jx_stk {rv : Nat → Value} {u r9 : List Value} {b : Nat} (hb3 : 3 ≤ b) : (u ++ .ref b :: r9).map (jx_rl rv ad) = ((u.reverse ++ []).map (jx_rl rv ad)).reverse ++ .ref (ad b) :: r9.map (jx_rl rv ad) := by
  rw [List.map_append, List.map_cons, List.append_nil, List.map_reverse, List.reverse_reverse, show jx_rl rv ad (.ref b) = .ref (ad b) from jx_rr_ge hb3]
theorem jx_room4 {rv : Nat → Value} (hrv : ∀ k, k < 3 → rv k = .null ∨ ∃ a, rv k = .ref a) {r9 : List Value} (h4 : r9.length ≤ 4) {st0 : List Value} : 2 * (F0 m pc lm st0).monitorRoom + ((r9.map (jx_rl rv ad)).map fun v => v.category).sum ≤ 8 := by
  have := jx_cat_sum hrv (ad := ad) r9
  have hm : (F0 m pc lm st0).monitorRoom = 0 := rfl
  rw [hm]
  omega
set_option maxHeartbeats 8000000 in
theorem jx_call_run (hp : jx_Prog w T P) {y : Nat} (X : CallFix p m c (T.2.1 y) (T.2.2.1 y) s args lw_all (T.1 y).cls) (G : jx_G w ad A s s.heap) (K : jx_At w ad A s h H locs) (hA : ∀ q, s.heap.size ≤ q → A q) {i i0 : Instr} {len z hd d : Nat} {ls st st' vs l0 : List Value} (hsc : jx_sc P.2.2.1 i ls st h = some (.inr (.inr (.inl (z, vs, st', hd))))) (hdg : decode (T.2.1 y) pc = .ok (i0, len))
    (hR : jx_RIk w P.2.2.1 T P y pc i0 len i) (hsz : lm.size = T.2.2.1 y) (hcs : jx_vs h.2.1 st) (hl0 : P.2.1 z vs = some l0) (hfr : d + 1 + 1 ≤ R.frames) (hlo : 64 * (d + 1 + 1) ≤ R.locals) {Qc : Array Value → State → Outcome → State → Prop} {free : Addr → Prop}
    (hmet : ∀ n, jx_M T z n → jx_vs h.2.1 vs → Met l (T.1 z) (jx_wd T z :: lw_all) (jx_rm d h h1) (jx_Pc w ad h vs H.size) Qc (h1.2.1 - h.2.1) (h1.2.2 - h.2.2) free) (hf : cells + (h1.2.1 - h.2.1) ≤ R.cells ∧ slots + (h1.2.2 - h.2.2) ≤ R.slots) :
    len = 3 ∧ jx_vs h.2.1 st' ∧ va_Run p l e R s m args below meth c H locs cells slots (h1.2.1 - h.2.1) (h1.2.2 - h.2.2) (F0 m pc lm (st.map (jx_rl w.2.2.1 ad))) (st'.map (jx_rl w.2.2.1 ad)) (Qc (vs.map (jx_rl w.2.2.1 ad)).toArray) free := by
  have hrv := G.2.2.2.2.2.2
  have hw := K.2.2.2
  have hts := X.2.2.2.2
  have hroom : ∀ z, T.2.2.1 z ≤ 40 → (jx_rm d h h1).frames + 1 ≤ R.frames ∧ 8 + (T.2.2.1 z + 11) + (jx_rm d h h1).locals ≤ R.locals := fun z hz => ⟨hfr, by simp only [jx_rm]; omega⟩
  have hpre : ∀ vs : List Value, ∀ U : State, U.heap = H → s.WarmedH U.vm → jx_Pc w ad h vs H.size (vs.map (jx_rl w.2.2.1 ad)).toArray U := fun vs U hU hW => jx_pre G K hA hU hW
  have hwd : ∀ z, T.2.2.2.2.1 z = [] → jx_wd T z = Cond.code (T.1 z) (T.2.1 z) (T.2.2.1 z) (T.2.2.2.1 z) := fun z hz => if_pos hz
  cases i with
  | invokevirtual z9 =>
    obtain ⟨x, q, rfl, rfl, hM, hcl, hcq, hlk, hin, hsel, -⟩ := hR
    simp only [jx_sc] at hsc
    split at hsc
    · rename_i as b r9 hpop
      split at hsc
      · rename_i ci fs he
        split at hsc
        · rename_i hci
          simp only [jx_cl] at hsc
          split at hsc
          · rename_i h4
            cases hsc
            obtain ⟨u, hu1, rfl, rfl⟩ := jx_pop_ok _ _ _ _ _ hpop
            have hcs2 := jx_vs_app hcs
            have hb9 : b < h.2.1 := jx_vs_h hcs2.2
            obtain ⟨hb3, hrec⟩ := jx_recv G K hb9 he hp.2.2.2.2.1 (by rw [hci]; exact hcl)
            have hvs : jx_vs h.2.1 (.ref b :: (u.reverse ++ [])) := jx_vs_c hb9 (by rw [List.append_nil]; intro v hv; exact hcs2.1 v (List.mem_reverse.mp hv))
            have hmet := hmet _ hM hvs
            have hini : Cond.initialized q ∈ lw_all := by rw [← hcq]; exact hM.2.2.1
            have ev : (Value.ref b :: (u.reverse ++ [])).map (jx_rl w.2.2.1 ad) = .ref (ad b) :: (u.reverse ++ []).map (jx_rl w.2.2.1 ad) := by rw [List.map_cons, show jx_rl w.2.2.1 ad (.ref b) = .ref (ad b) from jx_rr_ge hb3]
            have hpv : ∀ U : State, U.heap = H → s.WarmedH U.vm → jx_Pc w ad h (.ref b :: (u.reverse ++ [])) H.size (.ref (ad b) :: (u.reverse ++ []).map (jx_rl w.2.2.1 ad)).toArray U := by
              intro U hU hW
              have := hpre (.ref b :: (u.reverse ++ [])) U hU hW
              rw [ev] at this
              exact this
            refine ⟨rfl, jx_vs_t hcs2.2, ?_⟩
            rw [jx_stk hb3, ev]
            by_cases hhh : T.2.2.2.2.1 (z9 / 10 % 1000) = []
            · have hwc := hwd _ hhh
              rw [hwc] at hmet
              have hcode : Cond.code (T.1 (z9 / 10 % 1000)) (T.2.1 (z9 / 10 % 1000)) (T.2.2.1 (z9 / 10 % 1000)) (T.2.2.2.1 (z9 / 10 % 1000)) ∈ lw_all := by rw [← hwc]; exact hM.2.2.2.1
              exact va_runV X hmet (cwV (z9 % 10) hts (lw_V hlk hin hsel hini hcode) rfl rfl rfl ⟨hcq, hM.2.1⟩ (hroom _ hM.2.2.2.2)) ⟨jx_blind, hrec, hpv⟩ rfl (by rw [List.length_map, List.append_nil, List.length_reverse]; exact hu1) hsz rfl (jx_room4 hrv h4) hdg hf
            · have hwc : jx_wd T (z9 / 10 % 1000) = Cond.codeWith (T.1 (z9 / 10 % 1000)) (T.2.1 (z9 / 10 % 1000)) (T.2.2.1 (z9 / 10 % 1000)) (T.2.2.2.1 (z9 / 10 % 1000)) (T.2.2.2.2.1 (z9 / 10 % 1000)) := if_neg hhh
              rw [hwc] at hmet
              have hcode : Cond.codeWith (T.1 (z9 / 10 % 1000)) (T.2.1 (z9 / 10 % 1000)) (T.2.2.1 (z9 / 10 % 1000)) (T.2.2.2.1 (z9 / 10 % 1000)) (T.2.2.2.2.1 (z9 / 10 % 1000)) ∈ lw_all := by rw [← hwc]; exact hM.2.2.2.1
              exact vx_runVW X hmet (vx_cwVW (z9 % 10) hts (lw_VW hlk hin hsel hini hcode) rfl rfl rfl ⟨hcq, hM.2.1⟩ (hroom _ hM.2.2.2.2)) ⟨jx_blind, hrec, hpv⟩ rfl (by rw [List.length_map, List.append_nil, List.length_reverse]; exact hu1) hsz rfl (jx_room4 hrv h4) hdg hf
          · cases hsc
        · cases hsc
      · cases hsc
    · cases hsc
  | fload z9 =>
    obtain ⟨x, xm, rfl, rfl, hlk, hsm, hdc, hxm, hall⟩ := hR
    simp only [jx_sc] at hsc
    split at hsc
    · rename_i as b r9 hpop
      split at hsc
      · rename_i ci fs he
        simp only [jx_cl, jx_dp] at hsc
        split at hsc
        · rename_i h4
          cases hsc
          obtain ⟨u, hu1, rfl, rfl⟩ := jx_pop_ok _ _ _ _ _ hpop
          rcases hall ci with hn | ⟨r, hr1, hr2, hM, hhh, hsel, hin⟩
          · rw [hn] at hl0; cases hl0
          · have hcs2 := jx_vs_app hcs
            have hb9 : b < h.2.1 := jx_vs_h hcs2.2
            obtain ⟨hb3, hrec⟩ := jx_recv G K hb9 he hp.2.2.2.2.1 (Or.inr ⟨r, hr1, hr2, rfl⟩)
            have hvs : jx_vs h.2.1 (.ref b :: (u.reverse ++ [])) := jx_vs_c hb9 (by rw [List.append_nil]; intro v hv; exact hcs2.1 v (List.mem_reverse.mp hv))
            have hmet := hmet _ hM hvs
            have ev : (Value.ref b :: (u.reverse ++ [])).map (jx_rl w.2.2.1 ad) = .ref (ad b) :: (u.reverse ++ []).map (jx_rl w.2.2.1 ad) := by rw [List.map_cons, show jx_rl w.2.2.1 ad (.ref b) = .ref (ad b) from jx_rr_ge hb3]
            have hpv : ∀ U : State, U.heap = H → s.WarmedH U.vm → jx_Pc w ad h (.ref b :: (u.reverse ++ [])) H.size (.ref (ad b) :: (u.reverse ++ []).map (jx_rl w.2.2.1 ad)).toArray U := by
              intro U hU hW
              have := hpre (.ref b :: (u.reverse ++ [])) U hU hW
              rw [ev] at this
              exact this
            refine ⟨rfl, jx_vs_t hcs2.2, ?_⟩
            rw [jx_stk hb3, ev]
            have hwc := hwd _ hhh
            rw [hwc] at hmet
            have hG : GoodIn lw_all (va_wsU (T.1 y).cls x r.1 xm.cls xm (T.1 (P.2.2.1 (z9 / 10) ci)) (Cond.code (T.1 (P.2.2.1 (z9 / 10) ci)) (T.2.1 (P.2.2.1 (z9 / 10) ci)) (T.2.2.1 (P.2.2.1 (z9 / 10) ci)) (T.2.2.2.1 (P.2.2.1 (z9 / 10) ci)) :: lw_all)) := by
              have hg := jx_good hM.2.2.2.1
              rw [hwc] at hg
              refine lw_app ?_ hg
              intro q hq
              simp only [List.mem_cons, List.not_mem_nil, or_false] at hq
              rcases hq with rfl | rfl | rfl | rfl | rfl
              · exact hlk
              · exact hsm
              · exact hsel
              · exact hin
              · exact hM.2.2.1
            exact va_runU X hmet (va_cwA (z9 % 10) hts hG rfl rfl rfl (G.2.1 _ hdc).2 hxm (hroom _ hM.2.2.2.2)) ⟨jx_blind, hrec, hpv⟩ rfl (by rw [List.length_map, List.append_nil, List.length_reverse]; exact hu1) hsz rfl (jx_room4 hrv h4) hdg hf
        · cases hsc
      · cases hsc
    · cases hsc
  | invokespecial z9 =>
    obtain ⟨x, rfl, rfl, hM, hhh, hnm, hrt, hin, hlk⟩ := hR
    simp only [jx_sc] at hsc
    split at hsc
    · rename_i as b r9 hpop
      split at hsc
      · rename_i hb3
        simp only [jx_cl] at hsc
        split at hsc
        · rename_i h4
          cases hsc
          obtain ⟨u, hu1, rfl, rfl⟩ := jx_pop_ok _ _ _ _ _ hpop
          have hcs2 := jx_vs_app hcs
          have hb9 : b < h.2.1 := jx_vs_h hcs2.2
          have hvs : jx_vs h.2.1 (.ref b :: (u.reverse ++ [])) := jx_vs_c hb9 (by rw [List.append_nil]; intro v hv; exact hcs2.1 v (List.mem_reverse.mp hv))
          have hmet := hmet _ hM hvs
          have ev : (Value.ref b :: (u.reverse ++ [])).map (jx_rl w.2.2.1 ad) = .ref (ad b) :: (u.reverse ++ []).map (jx_rl w.2.2.1 ad) := by rw [List.map_cons, show jx_rl w.2.2.1 ad (.ref b) = .ref (ad b) from jx_rr_ge hb3]
          have hpv : ∀ U : State, U.heap = H → s.WarmedH U.vm → jx_Pc w ad h (.ref b :: (u.reverse ++ [])) H.size (.ref (ad b) :: (u.reverse ++ []).map (jx_rl w.2.2.1 ad)).toArray U := by
            intro U hU hW
            have := hpre (.ref b :: (u.reverse ++ [])) U hU hW
            rw [ev] at this
            exact this
          refine ⟨rfl, jx_vs_t hcs2.2, ?_⟩
          rw [jx_stk hb3, ev]
          have hwc := hwd _ hhh
          rw [hrt] at hwc
          rw [hwc] at hmet
          have hg := jx_good hM.2.2.2.1
          rw [hwc] at hg
          rcases hlk with hlk | ⟨host, hlk⟩
          · exact va_runI X hmet (cwI (z9 % 10) hts hg rfl rfl rfl (hts _ hM.2.2.1) (hts _ hlk) (hts _ hin) hnm hM.2.1 (hroom _ hM.2.2.2.2)) ⟨jx_blind, hpv⟩ rfl (by rw [List.length_map, List.append_nil, List.length_reverse]; exact hu1) hsz rfl (jx_room4 hrv h4) hdg hf
          · exact va_runIN X hmet ⟨va_cnB (z9 % 10) hts hg rfl rfl rfl (G.2.1 _ hlk).2 (hts _ hM.2.2.1) hM.2.1 (hroom _ hM.2.2.2.2), hnm, hts _ hin⟩ ⟨jx_blind, hpv⟩ rfl (by rw [List.length_map, List.append_nil, List.length_reverse]; exact hu1) hsz rfl (jx_room4 hrv h4) hdg hf
        · cases hsc
      · cases hsc
    · cases hsc
  | invokestatic z9 =>
    obtain ⟨x, rfl, rfl, hM, hhh, hst, hlk⟩ := hR
    simp only [jx_sc] at hsc
    split at hsc
    · rename_i as r9 hpop
      simp only [jx_cl] at hsc
      split at hsc
      · rename_i h4
        cases hsc
        obtain ⟨u, hu1, rfl, rfl⟩ := jx_pop_ok _ _ _ _ _ hpop
        have hcs2 := jx_vs_app hcs
        have hvs : jx_vs h.2.1 (u.reverse ++ []) := by rw [List.append_nil]; intro v hv; exact hcs2.1 v (List.mem_reverse.mp hv)
        have hmet := hmet _ hM hvs
        refine ⟨rfl, hcs2.2, ?_⟩
        have hstk : (u ++ st').map (jx_rl w.2.2.1 ad) = ((u.reverse ++ []).map (jx_rl w.2.2.1 ad)).reverse ++ st'.map (jx_rl w.2.2.1 ad) := by
          rw [List.map_append, List.append_nil, List.map_reverse, List.reverse_reverse]
        rw [hstk]
        have hwc := hwd _ hhh
        rw [hwc] at hmet
        have hg := jx_good hM.2.2.2.1
        rw [hwc] at hg
        have hcode : Cond.code (T.1 (z9 / 10 % 1000)) (T.2.1 (z9 / 10 % 1000)) (T.2.2.1 (z9 / 10 % 1000)) (T.2.2.2.1 (z9 / 10 % 1000)) ∈ lw_all := by rw [← hwc]; exact hM.2.2.2.1
        rcases hlk with hlk | ⟨host, hlk⟩
        · exact va_runS X hmet (va_cwS (z9 % 10) hts (lw_S hlk hst hM.2.2.1 hcode) rfl rfl rfl hM.2.1 (hroom _ hM.2.2.2.2)) ⟨jx_blind, fun U hU hW => hpre _ U hU hW⟩ rfl (by rw [List.length_map, List.append_nil, List.length_reverse]; exact hu1) hsz rfl (jx_room4 hrv h4) hdg hf
        · exact va_runSN X hmet ⟨va_cnB (z9 % 10) hts hg rfl rfl rfl (G.2.1 _ hlk).2 (hts _ hM.2.2.1) hM.2.1 (hroom _ hM.2.2.2.2), hts _ hst, trivial⟩ ⟨jx_blind, fun U hU hW => hpre _ U hU hW⟩ rfl (by rw [List.length_map, List.append_nil, List.length_reverse]; exact hu1) hsz rfl (jx_room4 hrv h4) hdg hf
      · cases hsc
    · cases hsc
  | _ => exact absurd hR id
set_option maxHeartbeats 8000000 in
theorem jx_call_runx (hp : jx_Prog w T P) {y : Nat} (X : CallFix p m c (T.2.1 y) (T.2.2.1 y) s args lw_all (T.1 y).cls) (G : jx_G w ad A s s.heap) (K : jx_At w ad A s h H locs) (hA : ∀ q, s.heap.size ≤ q → A q) {i i0 : Instr} {len z hd d : Nat} {ls st st' vs l0 : List Value} (hsc : jx_sc P.2.2.1 i ls st h = some (.inr (.inr (.inl (z, vs, st', hd))))) (hdg : decode (T.2.1 y) pc = .ok (i0, len))
    (hR : jx_RIk w P.2.2.1 T P y pc i0 len i) (hsz : lm.size = T.2.2.1 y) (hcs : jx_vs h.2.1 st) (hl0 : P.2.1 z vs = some l0) (hfr : d + 1 + 1 ≤ R.frames) (hlo : 64 * (d + 1 + 1) ≤ R.locals) {Qc : Array Value → State → Outcome → State → Prop} {XC : String → State → State → Prop} {free : Addr → Prop}
    (hmet : ∀ n, jx_M T z n → jx_vs h.2.1 vs → vx_Met l (T.1 z) (jx_wd T z :: lw_all) (jx_rm d h h1) (jx_Pc w ad h vs H.size) Qc XC (h1.2.1 - h.2.1) (h1.2.2 - h.2.2) free) (hf : cells + (h1.2.1 - h.2.1) ≤ R.cells ∧ slots + (h1.2.2 - h.2.2) ≤ R.slots) :
    hd = 1 ∨ (len = 3 ∧ jx_vs h.2.1 st' ∧ vx_Run p l e R s m args below meth c H locs cells slots (h1.2.1 - h.2.1) (h1.2.2 - h.2.2) (F0 m pc lm (st.map (jx_rl w.2.2.1 ad))) (st'.map (jx_rl w.2.2.1 ad)) (Qc (vs.map (jx_rl w.2.2.1 ad)).toArray) XC free ∧
      (hd = 0 ∨ ∃ (a b tg ct : Nat) (j : Instr) (lj : Nat), T.2.2.2.2.1 y = [(a, b, tg, ct)] ∧ covers { startPc := a, endPc := b, handlerPc := tg, catchType := ct } pc = true ∧ ct ≠ 0 ∧ Cond.classLink (T.1 y).cls ct "SpoonCourt$Fault" ∈ lw_all ∧ Cond.castable "SpoonCourt$Fault" "SpoonCourt$Fault" ∈ w.2.2.2.2.1 ∧
        decode (T.2.1 y) tg = .ok (j, lj) ∧ tg + lj = hd / 10 ∧ hd % 10 < T.2.2.1 y ∧ ((j = .astore (hd % 10) ∧ lj = 2) ∨ ∃ n : Fin 4, j = .astore_n n ∧ (n : Nat) = hd % 10 ∧ lj = 1))) := by
  have hrv := G.2.2.2.2.2.2
  have hw := K.2.2.2
  have hts := X.2.2.2.2
  have hroom : ∀ z, T.2.2.1 z ≤ 40 → (jx_rm d h h1).frames + 1 ≤ R.frames ∧ 8 + (T.2.2.1 z + 11) + (jx_rm d h h1).locals ≤ R.locals := fun z hz => ⟨hfr, by simp only [jx_rm]; omega⟩
  have hpre : ∀ vs : List Value, ∀ U : State, U.heap = H → s.WarmedH U.vm → jx_Pc w ad h vs H.size (vs.map (jx_rl w.2.2.1 ad)).toArray U := fun vs U hU hW => jx_pre G K hA hU hW
  have hwd : ∀ z, T.2.2.2.2.1 z = [] → jx_wd T z = Cond.code (T.1 z) (T.2.1 z) (T.2.2.1 z) (T.2.2.2.1 z) := fun z hz => if_pos hz
  cases i with
  | invokevirtual z9 =>
    obtain ⟨x, q, rfl, rfl, hM, hcl, hcq, hlk, hin, hsel, hhd⟩ := hR
    simp only [jx_sc] at hsc
    split at hsc
    · rename_i as b r9 hpop
      split at hsc
      · rename_i ci fs he
        split at hsc
        · rename_i hci
          simp only [jx_cl] at hsc
          split at hsc
          · rename_i h4
            cases hsc
            obtain ⟨u, hu1, rfl, rfl⟩ := jx_pop_ok _ _ _ _ _ hpop
            have hcs2 := jx_vs_app hcs
            have hb9 : b < h.2.1 := jx_vs_h hcs2.2
            obtain ⟨hb3, hrec⟩ := jx_recv G K hb9 he hp.2.2.2.2.1 (by rw [hci]; exact hcl)
            have hvs : jx_vs h.2.1 (.ref b :: (u.reverse ++ [])) := jx_vs_c hb9 (by rw [List.append_nil]; intro v hv; exact hcs2.1 v (List.mem_reverse.mp hv))
            have hmet := hmet _ hM hvs
            have hini : Cond.initialized q ∈ lw_all := by rw [← hcq]; exact hM.2.2.1
            have ev : (Value.ref b :: (u.reverse ++ [])).map (jx_rl w.2.2.1 ad) = .ref (ad b) :: (u.reverse ++ []).map (jx_rl w.2.2.1 ad) := by rw [List.map_cons, show jx_rl w.2.2.1 ad (.ref b) = .ref (ad b) from jx_rr_ge hb3]
            have hpv : ∀ U : State, U.heap = H → s.WarmedH U.vm → jx_Pc w ad h (.ref b :: (u.reverse ++ [])) H.size (.ref (ad b) :: (u.reverse ++ []).map (jx_rl w.2.2.1 ad)).toArray U := by
              intro U hU hW
              have := hpre (.ref b :: (u.reverse ++ [])) U hU hW
              rw [ev] at this
              exact this
            refine Or.inr ⟨rfl, jx_vs_t hcs2.2, ?_, hhd⟩
            rw [jx_stk hb3, ev]
            by_cases hhh : T.2.2.2.2.1 (z9 / 10 % 1000) = []
            · have hwc := hwd _ hhh
              rw [hwc] at hmet
              have hcode : Cond.code (T.1 (z9 / 10 % 1000)) (T.2.1 (z9 / 10 % 1000)) (T.2.2.1 (z9 / 10 % 1000)) (T.2.2.2.1 (z9 / 10 % 1000)) ∈ lw_all := by rw [← hwc]; exact hM.2.2.2.1
              exact vx_runV X hmet (cwV (z9 % 10) hts (lw_V hlk hin hsel hini hcode) rfl rfl rfl ⟨hcq, hM.2.1⟩ (hroom _ hM.2.2.2.2)) ⟨jx_blind, hrec, hpv⟩ rfl (by rw [List.length_map, List.append_nil, List.length_reverse]; exact hu1) hsz rfl (jx_room4 hrv h4) hdg hf
            · have hwc : jx_wd T (z9 / 10 % 1000) = Cond.codeWith (T.1 (z9 / 10 % 1000)) (T.2.1 (z9 / 10 % 1000)) (T.2.2.1 (z9 / 10 % 1000)) (T.2.2.2.1 (z9 / 10 % 1000)) (T.2.2.2.2.1 (z9 / 10 % 1000)) := if_neg hhh
              rw [hwc] at hmet
              have hcode : Cond.codeWith (T.1 (z9 / 10 % 1000)) (T.2.1 (z9 / 10 % 1000)) (T.2.2.1 (z9 / 10 % 1000)) (T.2.2.2.1 (z9 / 10 % 1000)) (T.2.2.2.2.1 (z9 / 10 % 1000)) ∈ lw_all := by rw [← hwc]; exact hM.2.2.2.1
              exact vx_runVX X hmet (vx_cwVW (z9 % 10) hts (lw_VW hlk hin hsel hini hcode) rfl rfl rfl ⟨hcq, hM.2.1⟩ (hroom _ hM.2.2.2.2)) ⟨jx_blind, hrec, hpv⟩ rfl (by rw [List.length_map, List.append_nil, List.length_reverse]; exact hu1) hsz rfl (jx_room4 hrv h4) hdg hf
          · cases hsc
        · cases hsc
      · cases hsc
    · cases hsc
  | fload z9 =>
    simp only [jx_sc, jx_cl] at hsc
    repeat' split at hsc
    all_goals (cases hsc)
    exact Or.inl rfl
  | invokespecial z9 =>
    simp only [jx_sc, jx_cl] at hsc
    repeat' split at hsc
    all_goals (cases hsc)
    exact Or.inl rfl
  | invokestatic z9 =>
    simp only [jx_sc, jx_cl] at hsc
    repeat' split at hsc
    all_goals (cases hsc)
    exact Or.inl rfl
  | _ => exact absurd hR id
end JXE
