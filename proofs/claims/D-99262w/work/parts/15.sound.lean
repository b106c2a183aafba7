set_option maxHeartbeats 8000000 in
theorem jx_main {l : Launch} {w : jx_W} {T : jx_T} {P : jx_P} (hp : jx_Prog w T P) : ∀ f, jx_IH l w T P f := by
  intro f
  induction f with
  | zero => intro d y c ls st h res hf e; cases e
  | succ f IH =>
    intro d y c ls st h res hf e p env R s m args below meth cd A ad H locs cells slots Q pc lm X G hA K hOk hl hcl hcs hini htab hfr hlo hcB hsB kret kthr
    have hrv := G.2.2.2.2.2.2
    have hw := K.2.2.2
    have hRO : ∀ k, k < 48 → jx_rt_ro (w.2.2.2.1 k) := fun k hk => (hw.2.1 k hk).2
    have hG : ∀ ad' : Nat → Nat, (∀ j, j < h.2.1 → ad' j = ad j) → jx_G w ad' A s s.heap := fun ad' hx => jx_G_ext (fun k hk => hx k (Nat.lt_of_lt_of_le hk hw.1)) hp.2.2.2.1 hRO G
    -- the walk goes on
    have kgo : ∀ (d2 : Nat) (c2 : List Instr) (ls2 st2 : List Value) (h2 : jx_H) (ad2 : Nat → Nat) (H2 : Heap) (locs2 : List Loc) (cells2 slots2 pc2 : Nat) (lm2 : Array Slot), jx_ex P f d2 y c2 ls2 st2 h2 = some (res, hf) → d2 ≤ d → (∀ j, j < h.2.1 → ad2 j = ad j) → jx_gr h h2 → jx_At w ad2 A s h2 H2 locs2 → jx_Ok w T P y pc2 c2 → jx_lr w.2.2.1 ad2 (T.2.2.1 y) ls2 lm2 → jx_vs h2.2.1 ls2 → jx_vs h2.2.1 st2 → cells2 + h.2.1 = cells + h2.2.1 → slots2 + h.2.2 = slots + h2.2.2 →
        W p l env R s m args below meth cd H2 locs2 cells2 slots2 Q (F0 m pc2 lm2 (st2.map (jx_rl w.2.2.1 ad2))) := by
      intro d2 c2 ls2 st2 h2 ad2 H2 locs2 cells2 slots2 pc2 lm2 e2 hd2 hx hgr K2 hOk2 hl2 hcl2 hcs2 hc2 hs2
      have hgr2 := jx_ex_gr _ _ _ _ _ _ _ _ _ e2
      refine IH d2 y c2 ls2 st2 h2 res hf e2 p env R s m args below meth cd A ad2 H2 locs2 cells2 slots2 Q pc2 lm2 X (hG ad2 hx) hA K2 hOk2 hl2 hcl2 hcs2 hini htab (by omega) (by omega) (by omega) (by omega) ?_ ?_
      · intro v ad' H' locs' cells' slots' pc' lm' hres hext K' hcl' hsl' hRT hvk
        exact kret v ad' H' locs' cells' slots' pc' lm' hres (fun j hj => (hext j (Nat.lt_of_lt_of_le hj hgr.1)).trans (hx j hj)) K' (by omega) (by omega) hRT hvk
      · intro ad' H' locs' cells' slots' pc' lm' rest q ce hres hext K' hcl' hsl' hhh hce hcv hcls
        exact kthr ad' H' locs' cells' slots' pc' lm' rest q ce hres (fun j hj => (hext j (Nat.lt_of_lt_of_le hj hgr.1)).trans (hx j hj)) K' (by omega) (by omega) hhh hce hcv hcls
    have gr0 : jx_gr h h := ⟨Nat.le_refl _, Nat.le_refl _⟩
    cases c with
    | nil => simp only [jx_ex] at e; cases e
    | cons i r =>
      simp only [jx_ex] at e
      rcases hOk with ⟨L, rfl, rfl⟩ | ⟨i0, len, hdg, hRI, hOkr⟩
      · simp only [jx_st, jx_sa, jx_sb, jx_jp] at e
        exact kgo d _ ls st h ad H locs cells slots L lm e (Nat.le_refl _) (fun _ _ => rfl) gr0 K (hp.1 y L) hl hcl hcs rfl rfl
      · cases hsa : jx_sa i ls st h with
        | some a =>
          refine jx_sa_ok X G K.2.2.1 hsa hdg (jx_RI_a hRI (jx_kd_sa hsa)) hl hcl hcs hw.1 hp.2.2.2.1 ?_
          intro ls' st' lm' ha hl' hcl' hcs'
          subst ha
          simp only [jx_st, hsa] at e
          exact kgo d r ls' st' h ad H locs cells slots (pc + len) lm' e (Nat.le_refl _) (fun _ _ => rfl) gr0 K hOkr hl' hcl' hcs' rfl rfl
        | none =>
          cases hsb : jx_sb i ls st h with
          | some a =>
            rcases jx_kd_sb hsb with hkd | hkd
            · refine jx_sb_ok X.1 X.2.1 hsb hdg (jx_RI_b hRI hkd) hcs ?_ ?_
              · intro st' ha hcs'
                subst ha
                simp only [jx_st, hsa, hsb] at e
                exact kgo d r ls st' h ad H locs cells slots (pc + len) lm e (Nat.le_refl _) (fun _ _ => rfl) gr0 K hOkr hl hcl hcs' rfl rfl
              · intro L st' ha hcs'
                subst ha
                simp only [jx_st, hsa, hsb] at e
                exact kgo d _ ls st' h ad H locs cells slots L lm e (Nat.le_refl _) (fun _ _ => rfl) gr0 K (hp.1 y L) hl hcl hcs' rfl rfl
            · have hR := jx_RI_r hRI hkd
              obtain ⟨o, rfl⟩ : ∃ o, a = .inr (.inr (.inr o)) := jx_sb_end hsb hkd
              simp only [jx_st, hsa, hsb] at e
              cases e
              rcases jx_sr_ok hsb hdg hR with ⟨v, rfl, rfl, hRT⟩ | ⟨rfl, rfl, rfl, hhh, k, r9, fs, rfl, he⟩
              · have := kret v ad H locs cells slots pc lm rfl (fun _ _ => rfl) K rfl rfl hRT (fun u hu => by subst hu; exact hcs u List.mem_cons_self)
                exact this
              · have hk9 : k < h.2.1 := jx_vs_h hcs
                have hge : 48 ≤ k := jx_wf_rw hw (by rw [he]; exact fun q => absurd q.1 (by decide))
                have hv := va_recv G.1 K.1 (ci := 2) rfl (jx_ws_at (cA := w.2.1) (rv := w.2.2.1) (ad := ad) hge hk9 |>.trans (by rw [he]; rfl))
                obtain ⟨r2, z1, cell, z2, z3, z4, -⟩ := K.1 (k - 48) (ad k, .inr (2, fs.map (jx_rl w.2.2.1 ad))) (jx_ws_at (cA := w.2.1) (rv := w.2.2.1) (ad := ad) hge hk9 |>.trans (by rw [he]; rfl))
                obtain ⟨cell2, y1, -, y3⟩ := hv
                have hcc : cell2 = cell := Option.some.inj (y1.symm.trans z2)
                subst hcc
                rw [List.map_cons, show jx_rl w.2.2.1 ad (.ref k) = .ref (ad k) from jx_rr_ge (jx_48 hge)]
                exact vx_athrow X.1 X.2.1 hdg (kthr ad H locs cells slots pc lm (r9.map (jx_rl w.2.2.1 ad)) (ad k) cell2 rfl (fun _ _ => rfl) K rfl rfl hhh y1 z4 y3)
          | none =>
            cases hsc : jx_sc P.2.2.1 i ls st h with
            | none => simp only [jx_st, hsa, hsb, hsc] at e; cases e
            | some a =>
              simp only [jx_st, hsa, hsb, hsc] at e
              rcases jx_kd_sc hsc with hkd | hkd
              · refine jx_sc_ok (w := w) (ad := ad) (h := h) (ini := (T.1 y).name == "<init>") X G K hA hsc hdg (jx_RI_c hRI hkd) hini hl hcs (by omega) (by omega) hp.2.2.2.2.1 hp.2.2.2.2.2 ?_ ?_
                · intro st' h' ha
                  subst ha
                  have := jx_ex_gr _ _ _ _ _ _ _ _ _ e
                  exact ⟨by have := this.1; omega, by have := this.2; omega⟩
                · intro ad' st' h' H' locs' cells' slots' ha hx K' hcs' hc' hs' hg1 hg2
                  subst ha
                  exact kgo d r ls st' h' ad' H' locs' cells' slots' (pc + len) lm e (Nat.le_refl _) hx ⟨hg1, hg2⟩ K' hOkr (jx_lr_ext hl hcl hx) (jx_vs_le hg1 hcl) hcs' hc' hs'
              · have hR := jx_RI_k hRI hkd
                obtain ⟨z, vs, st', hd, rfl, hlen4⟩ : ∃ z vs st' hd, a = .inr (.inr (.inl (z, vs, st', hd))) ∧ st'.length ≤ 4 := jx_sc_call hsc hkd
                cases d with
                | zero => cases e
                | succ d' =>
                  cases hl0 : P.2.1 z vs with
                  | none => simp only [hl0] at e; cases e
                  | some l0 =>
                    simp only [hl0] at e
                    cases e1 : jx_ex P f d' z (P.1 z 0) l0 [] h with
                    | none => rw [e1] at e; cases e
                    | some rs =>
                      obtain ⟨o, h1⟩ := rs
                      rw [e1] at e
                      have hgr1 := jx_ex_gr _ _ _ _ _ _ _ _ _ e1
                      have hga := hgr1.1
                      have hgb := hgr1.2
                      cases o with
                      | inl v =>
                        simp only at e
                        have hgr2 := jx_ex_gr _ _ _ _ _ _ _ _ _ e
                        have hgc := hgr2.1
                        have hgd := hgr2.2
                        have hrun := jx_call_run (e := env) (meth := meth) (below := below) (h1 := h1) (d := d') (Qc := jx_Qr w ad h h1 v H.size) (free := va_A (jx_ws w.2.1 w.2.2.1 ad h) H.size) hp X G K hA hsc hdg hR hl.1 hcs hl0 hfr hlo (fun n hM hvs => jx_met IH hp hM hl0 e1 hvs hw H.size) (cells := cells) (slots := slots) ⟨by omega, by omega⟩
                        obtain ⟨rfl, hcs', hrun⟩ := hrun
                        refine jx_go hrun K hA ?_
                        intro ad' H' locs' hx K' hvk
                        have := kgo (d' + 1) r ls (v.toList ++ st') h1 ad' H' locs' (cells + (h1.2.1 - h.2.1)) (slots + (h1.2.2 - h.2.2)) (pc + 3) lm e (Nat.le_refl _) hx hgr1 K' hOkr (jx_lr_ext hl hcl hx) (jx_vs_le hga hcl) (by
                          cases v with
                          | none => exact jx_vs_le hga hcs'
                          | some u => exact jx_vs_c (hvk u rfl) (jx_vs_le hga hcs')) (by omega) (by omega)
                        rw [List.map_append, jx_map_ext hx hcs'] at this
                        cases v with
                        | none => exact this
                        | some u => exact this
                      | inr uu =>
                        cases uu
                        simp only at e
                        have hrun := jx_call_runx (e := env) (meth := meth) (below := below) (h1 := h1) (d := d') (cells := cells) (slots := slots) (Qc := fun _ _ _ _ => False) (XC := jx_Xr w ad h h1 H.size) (free := va_A (jx_ws w.2.1 w.2.2.1 ad h) H.size) hp X G K hA hsc hdg hR hl.1 hcs hl0 hfr hlo (fun n hM hvs => jx_metx IH hp hM hl0 e1 hvs hw H.size)
                        split at e
                        · rename_i hd0
                          split at e
                          · cases e
                          · rename_i hPH
                            cases e
                            have hhh := hp.2.2.1 y (by cases hq : P.2.2.2 y with | false => rfl | true => exact absurd hq hPH)
                            rcases hrun ⟨by omega, by omega⟩ with hd1 | ⟨rfl, hcs', hrun, -⟩
                            · rw [hd0] at hd1; cases hd1
                            · refine jx_gox rfl hrun K hA ?_
                              intro ad' H' locs' q ce hx K' hce hcv hcls
                              exact kthr ad' H' locs' _ _ pc lm _ q ce rfl hx K' (by omega) (by omega) hhh hce hcv hcls
                        · rename_i hd0
                          split at e
                          · cases e
                          · rename_i hd1
                            have hgr2 := jx_ex_gr _ _ _ _ _ _ _ _ _ e
                            have hgc := hgr2.1
                            have hgd := hgr2.2
                            rcases hrun ⟨by omega, by omega⟩ with hd9 | ⟨rfl, hcs', hrun, hd9 | ⟨a, b, tg, ct, j, lj, q1, q2, q3, q4, q5, q6, q7, q8, q9⟩⟩
                            · exact absurd hd9 hd1
                            · exact absurd hd9 hd0
                            · refine jx_gox rfl hrun K hA ?_
                              intro ad' H' locs' q ce hx K' hce hcv hcls
                              refine vx_catch (own := (T.1 y).cls) (name := "SpoonCourt$Fault") (E := "SpoonCourt$Fault") X.2.2.2.1 [] { startPc := a, endPc := b, handlerPc := tg, catchType := ct } [] (by rw [htab, q1]; rfl) (fun _ z => absurd z List.not_mem_nil) q2 q3 (X.2.2.2.2 _ q4) (va_Nw.use rfl (G.2.1 _ q5).2) hce hcv hcls ?_
                              have hl' := jx_lr_ext hl hcl hx
                              have kk : ∀ lm' : Array Slot, lv_has lm' (T.2.2.1 y) ((hd % 10, Value.ref q) :: (jx_as w.2.2.1 ad' ls).filter (fun q => !(q.1 == hd % 10) && !(q.1 + 1 == hd % 10 && q.2.category == 2))) → W p l env R s m args below meth cd H' locs' (cells + (h1.2.1 - h.2.1)) (slots + (h1.2.2 - h.2.2)) Q (F0 m (tg + lj) lm' []) := by
                                intro lm' h'
                                rw [q7]
                                exact kgo (d' + 1) _ (jx_s1 ls (hd % 10) jx_un) [] h1 ad' H' locs' _ _ (hd / 10) lm' e (Nat.le_refl _) hx hgr1 K' (hp.1 y _) (jx_s1_ok hl' q8 (by decide) (by decide) (fun z => by cases z) h' hrv) (jx_vs_s1 (jx_vs_le hga hcl) trivial) jx_vs_nil (by omega) (by omega)
                              rcases q9 with ⟨rfl, rfl⟩ | ⟨n, rfl, hn, rfl⟩
                              · exact lv_astore X.1 X.2.1 q6 (jx_lr_has hl') q8 rfl kk
                              · exact lv_astore_n X.1 X.2.1 q6 hn (jx_lr_has hl') q8 rfl kk
