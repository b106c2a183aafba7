/-! STEPS ON THE HEAP: the rows -/
section JXD
variable {p : Program} {l : Launch} {e : Env} {R : Room} {s : State} {m : MethodId} {args : Array Value} {below : List Frame} {meth : Method} {c : Code} {H : Heap} {locs : List Loc} {cells slots : Nat} {Q : State → Prop}
variable {cc : ByteArray} {pc nL : Nat} {lm : Array Slot} {A : Nat → Prop} {w : jx_W} {ad : Nat → Nat} {O : String} {ls st : List Value} {h : jx_H}
/-- the world at a point of a method -/
def jx_At (w : jx_W) (ad : Nat → Nat) (A : Nat → Prop) (s : State) (h : jx_H) (H : Heap) (locs : List Loc) : Prop :=
  va_P w.1 jx_Cl (jx_ws w.2.1 w.2.2.1 ad h) H ∧ va_D A (jx_ws w.2.1 w.2.2.1 ad h) ∧ va_S A s.heap H locs ∧ jx_wf w.2.2.2.1 h
theorem jx_roAt {w : jx_W} {ad : Nat → Nat} {A : Nat → Prop} {s : State} {h : jx_H} {H : Heap} {locs : List Loc} (G : jx_G w ad A s s.heap) (K : jx_At w ad A s h H locs) {k : Nat} (hk : k < 48) : jx_roat ad A s s.heap k (h.1 k) := by
  rw [(K.2.2.2.2.1 k hk).1]
  exact G.2.2.2.2.2.1 k hk
theorem jx_rw_le {w : jx_W} {h : jx_H} (hw : jx_wf w.2.2.2.1 h) {k t n : Nat} {f : Nat → Int32} (e : h.1 k = .inl (t, n, .inl f)) (ht : t < 8) : 48 ≤ k := jx_wf_rw hw (by rw [e]; exact fun q => absurd q.1 (Nat.not_le.mpr ht))
theorem jx_rw_ro {w : jx_W} {h : jx_H} (hw : jx_wf w.2.2.2.1 h) {k t n : Nat} {f : Nat → Int32} (hk : k < h.2.1) (e : h.1 k = .inl (t, n, .inl f)) (ht : 8 ≤ t) : k < 48 := by
  rcases Nat.lt_or_ge k 48 with q | q
  · exact q
  · have := hw.2.2 k q hk
    rw [e] at this
    rcases this with rfl | rfl | rfl <;> exact absurd ht (by decide)
theorem jx_89 {t : Nat} (h : 8 ≤ t ∧ t ≤ 10) (h2 : t < 10) : t = 8 ∨ t = 9 := by omega
theorem jx_et19 {t : Nat} (h4 : 4 ≤ t) (h8 : t < 8) (e : 19 = jx_et t) : t = 4 := by
  match t, h4, h8, e with
  | 4, _, _, _ => rfl
  | 5, _, _, e => exact absurd e (by decide)
  | 6, _, _, e => exact absurd e (by decide)
  | 7, _, _, e => exact absurd e (by decide)
theorem jx_et_cl {t ci : Nat} (h4 : 4 ≤ t) (h8 : t < 8) (e : ci = jx_et t) (hn : 0 < jx_nn ci) : ∃ r, jx_Cl[ci]? = some r ∧ r.1 = jx_en t := by
  subst e
  match t, h4, h8, hn with
  | 4, _, _, hn => exact absurd hn (by decide)
  | 5, _, _, _ => exact ⟨_, rfl, rfl⟩
  | 6, _, _, _ => exact ⟨_, rfl, rfl⟩
  | 7, _, _, _ => exact ⟨_, rfl, rfl⟩
theorem jx_48 {b : Nat} (h : 48 ≤ b) : 3 ≤ b := Nat.le_trans (by decide) h
def jx_a89 : va_E → Bool
  | .inl (t, _, .inl _) => t == 8 || t == 9
  | _ => false
theorem jx_bit (x : Int32) : (x &&& 1 == 0 || x &&& 1 == 1) = true := by
  have h : x &&& 1 = 0 ∨ x &&& 1 = 1 := by
    rcases x with ⟨⟨x⟩⟩
    have : ∀ y : BitVec 32, y &&& 1#32 = 0#32 ∨ y &&& 1#32 = 1#32 := by
      intro y
      have : (y &&& 1#32).toNat = y.toNat % 2 := by
        rw [BitVec.toNat_and]
        exact Nat.and_one_is_mod _
      rcases Nat.mod_two_eq_zero_or_one y.toNat with e | e
      · left; apply BitVec.eq_of_toNat_eq; rw [this, e]; rfl
      · right; apply BitVec.eq_of_toNat_eq; rw [this, e]; rfl
    rcases this x with e | e
    · left; exact Int32.toBitVec_inj.mp e
    · right; exact Int32.toBitVec_inj.mp e
  rcases h with e | e <;> rw [e] <;> rfl
set_option maxHeartbeats 8000000 in
theorem jx_sc_ok {dt : Nat → Nat → Nat} {ini : Bool} (X : CallFix p m c cc nL s args lw_all O) (G : jx_G w ad A s s.heap) (K : jx_At w ad A s h H locs) (hA : ∀ q, s.heap.size ≤ q → A q) {i i0 : Instr} {len : Nat} {a : jx_A} (hi : jx_sc dt i ls st h = some a) (hdg : decode cc pc = .ok (i0, len)) (hR : jx_RIc w.2.2.2.2.1 O ini i0 len i) (hini : ini = true → meth.name = "<init>")
    (hl : jx_lr w.2.2.1 ad nL ls lm) (hcs : jx_vs h.2.1 st) (hfr : 1 ≤ R.frames) (hlo : 64 ≤ R.locals) (hs3 : ∀ b, b < 3 → ∀ q, w.2.2.2.1 b ≠ .inr q) (hs8 : ∀ b, jx_a89 (w.2.2.2.1 b) = true → 3 ≤ b)
    (hB : ∀ (st' : List Value) (h' : jx_H), a = .inl (ls, st', h') → cells + h'.2.1 ≤ R.cells + h.2.1 ∧ slots + h'.2.2 ≤ R.slots + h.2.2)
    (k : ∀ (ad' : Nat → Nat) (st' : List Value) (h' : jx_H) (H' : Heap) (locs' : List Loc) (cells' slots' : Nat), a = .inl (ls, st', h') → (∀ j, j < h.2.1 → ad' j = ad j) → jx_At w ad' A s h' H' locs' → jx_vs h'.2.1 st' → cells' + h.2.1 = cells + h'.2.1 → slots' + h.2.2 = slots + h'.2.2 → h.2.1 ≤ h'.2.1 → h.2.2 ≤ h'.2.2 → W p l e R s m args below meth c H' locs' cells' slots' Q (F0 m (pc + len) lm (st'.map (jx_rl w.2.2.1 ad')))) :
    W p l e R s m args below meth c H locs cells slots Q (F0 m pc lm (st.map (jx_rl w.2.2.1 ad))) := by
  obtain ⟨hx, hb, hml, ho, hts⟩ := X
  have hrv := G.2.2.2.2.2.2
  have hK := G.1
  obtain ⟨hP, hD, hS, hw⟩ := K
  have K : jx_At w ad A s h H locs := ⟨hP, hD, hS, hw⟩
  -- a step that leaves the heap
  have k0 : ∀ st' : List Value, a = .inl (ls, st', h) → jx_vs h.2.1 st' → W p l e R s m args below meth c H locs cells slots Q (F0 m (pc + len) lm (st'.map (jx_rl w.2.2.1 ad))) :=
    fun st' e1 e2 => k ad st' h H locs cells slots e1 (fun _ _ => rfl) K e2 rfl rfl (Nat.le_refl _) (Nat.le_refl _)
  -- a step that writes one cell
  have k1 : ∀ (st' : List Value) (b : Nat) (x : va_E) (H1 : Heap) (locs1 : List Loc), a = .inl (ls, st', jx_put h b x) → 48 ≤ b → jx_ok h.2.1 x → jx_vs h.2.1 st' →
      va_P w.1 jx_Cl ((jx_ws w.2.1 w.2.2.1 ad h).set (b - 48) (ad b, jx_re w.2.1 w.2.2.1 ad x)) H1 → va_D A ((jx_ws w.2.1 w.2.2.1 ad h).set (b - 48) (ad b, jx_re w.2.1 w.2.2.1 ad x)) → va_S A s.heap H1 locs1 →
      W p l e R s m args below meth c H1 locs1 cells slots Q (F0 m (pc + len) lm (st'.map (jx_rl w.2.2.1 ad))) := by
    intro st' b x H1 locs1 e1 e2 e3 e4 p1 p2 p3
    rw [jx_ws_put e2] at p1 p2
    exact k ad st' (jx_put h b x) H1 locs1 cells slots e1 (fun _ _ => rfl) ⟨p1, p2, p3, jx_wf_put hw e2 e3⟩ e4 rfl rfl (Nat.le_refl _) (Nat.le_refl _)
  -- a step that makes a cell
  have k2 : ∀ (r : List Value) (x : va_E) (n q : Nat) (H1 : Heap), a = .inl (ls, .ref h.2.1 :: r, jx_new h x n) → (∀ ad', jx_re w.2.1 w.2.2.1 ad' x = jx_re w.2.1 w.2.2.1 ad x) → jx_ok 0 x → jx_vs h.2.1 r →
      va_P w.1 jx_Cl (jx_ws w.2.1 w.2.2.1 ad h ++ [(q, jx_re w.2.1 w.2.2.1 ad x)]) H1 → va_D A (jx_ws w.2.1 w.2.2.1 ad h ++ [(q, jx_re w.2.1 w.2.2.1 ad x)]) → va_S A s.heap H1 locs →
      W p l e R s m args below meth c H1 locs (cells + 1) (slots + n) Q (F0 m (pc + len) lm (.ref q :: r.map (jx_rl w.2.2.1 ad))) := by
    intro r x n q H1 e1 e2 e3 e4 p1 p2 p3
    have hx9 : ∀ j, j < h.2.1 → (fun j => if j = h.2.1 then q else ad j) j = ad j := fun j hj => if_neg (Nat.ne_of_lt hj)
    have e5 := jx_ws_new (cA := w.2.1) (rv := w.2.2.1) (ad := ad) hw x n q (fun j => if j = h.2.1 then q else ad j) hx9 (if_pos rfl)
    rw [e2] at e5
    rw [e5] at p1 p2
    have := k (fun j => if j = h.2.1 then q else ad j) (.ref h.2.1 :: r) (jx_new h x n) H1 locs (cells + 1) (slots + n) e1 hx9 ⟨p1, p2, p3, jx_wf_new hw (jx_ok_le (Nat.zero_le _) e3)⟩
      (jx_vs_c (Nat.lt_succ_self _) (jx_vs_le (Nat.le_succ _) e4)) (by simp only [jx_new]; omega) (by simp only [jx_new]; omega) (Nat.le_succ _) (Nat.le_add_right _ _)
    rw [List.map_cons, jx_map_ext hx9 e4] at this
    have hn := hw.1
    have e6 : jx_rl w.2.2.1 (fun j => if j = h.2.1 then q else ad j) (.ref h.2.1) = .ref q := by
      simp only [jx_rl]
      rw [jx_rr_ge (by omega), if_pos rfl]
    rw [e6] at this
    exact this
  have rl3 : ∀ {q : Nat}, 3 ≤ q → jx_rl w.2.2.1 ad (.ref q) = .ref (ad q) := fun q => jx_rr_ge q
  -- places
  have at8 : ∀ {q : Nat} {x : va_E}, 48 ≤ q → q < h.2.1 → h.1 q = x → (jx_ws w.2.1 w.2.2.1 ad h)[q - 48]? = some (ad q, jx_re w.2.1 w.2.2.1 ad x) := fun p1 p2 p3 => by rw [← p3]; exact jx_ws_at p1 p2
  cases i with
  | invokeinterface ci j =>
    obtain ⟨x, rfl, rfl, hR⟩ := hR
    simp only [jx_sc] at hi
    split at hi
    · rename_i b r
      have hb9 : b < h.2.1 := jx_vs_h hcs
      split at hi
      · rename_i c0 fs he
        split at hi
        · rename_i hc
          subst hc
          split at hi
          · rename_i v hv
            cases hi
            have hvm := List.mem_of_getElem? hv
            rcases Nat.lt_or_ge b 48 with hlt | hge
            · have hro := jx_roAt G K hlt
              have hrt := (hw.2.1 b hlt).2
              rw [← (hw.2.1 b hlt).1, he] at hrt
              rw [he] at hro
              obtain ⟨v0, rfl, g1, g2, g3, g4⟩ := hro
              have hc9 := hrt.1
              subst hc9
              have hb3 : 3 ≤ b := by
                rcases Nat.lt_or_ge b 3 with q | q
                · rw [(hw.2.1 b hlt).1] at he
                  exact absurd he (hs3 b q _)
                · exact q
              have hk9 := k0 (v :: r) rfl (jx_vs_c (jx_vk_le hw.1 (hrt.2 v hvm)) (jx_vs_t hcs))
              rw [List.map_cons, rl3 hb3]
              rcases hR with ⟨-, ⟨rfl, q⟩ | ⟨rfl, q⟩⟩ | ⟨q, h1, -⟩
              · cases hv
                rw [List.map_cons, rl3 g1] at hk9
                exact vk_getf hx hb g4 hS ho (hts _ q) (fun _ h => h) hdg hk9
              · cases hv
                exact vk_getf hx hb g3 hS ho (hts _ q) (fun _ h => h) hdg hk9
              · simp [jx_Cl] at h1
            · have hok := hw.2.2 b hge hb9
              rw [he] at hok
              rcases hR with ⟨rfl, -⟩ | ⟨q, h1, h2, h3, h4⟩
              · exact absurd hok.1 (by decide)
              · have hk9 := k0 (v :: r) rfl (jx_vs_c (hok.2.2 v hvm) (jx_vs_t hcs))
                rw [List.map_cons, rl3 (by omega)]
                have hv9 : (fs.map (jx_rl w.2.2.1 ad))[j]? = some (jx_rl w.2.2.1 ad v) := by rw [List.getElem?_map, hv]; rfl
                rcases h4 with h4 | ⟨host, h4⟩
                · exact va_get hx hb hts (jx_cls h1).1 ho hK hP (b - 48) (at8 hge hb9 he) h1 j h3 (hts _ h4) (fun _ h => h) hv9 hdg hk9
                · exact va_getN hx hb hts (jx_cls h1).1 ho hK hP (b - 48) (at8 hge hb9 he) h1 j h3 (va_Nw.use rfl (G.2.1 _ h4).2) (fun _ h => h) hv9 hdg hk9
          · cases hi
        · cases hi
      · cases hi
    · cases hi
  | multianewarray ci kk =>
    obtain ⟨x, rfl, rfl, q, h1, h2, h3, h4, h5⟩ := hR
    simp only [jx_sc] at hi
    split at hi
    · rename_i v b r
      have hb9 : b < h.2.1 := jx_vs_h (jx_vs_t hcs)
      split at hi
      · rename_i c0 fs he
        split at hi
        · rename_i hc
          subst hc
          have hge : 48 ≤ b := by
            rcases Nat.lt_or_ge b 48 with hlt | hge
            · have hrt := (hw.2.1 b hlt).2
              rw [← (hw.2.1 b hlt).1, he] at hrt
              have hc9 := hrt.1
              subst hc9
              simp [jx_Cl] at h1
            · exact hge
          have hok := hw.2.2 b hge hb9
          rw [he] at hok
          have hty := jx_tyc_ok h1 h2
          have hlen : kk % 100 < (fs.map (jx_rl w.2.2.1 ad)).length := by rw [List.length_map, hok.2.1, ← hty.1]; exact h3
          have kput : ∀ v : Value, jx_vk h.2.1 v → narrow (jx_tyc q c0 (kk % 100)) (jx_rl w.2.2.1 ad v) = jx_rl w.2.2.1 ad v → fits (jx_tyc q c0 (kk % 100)) (jx_rl w.2.2.1 ad v) = true → a = .inl (ls, r, jx_put h b (.inr (c0, fs.set (kk % 100) v))) →
              W p l e R s m args below meth c H locs cells slots Q (F0 m pc lm (jx_rl w.2.2.1 ad v :: .ref (ad b) :: r.map (jx_rl w.2.2.1 ad))) := by
            intro v g1 g2 g3 g4
            have hkk : ∀ (H1 : Heap) (locs1 : List Loc), va_P w.1 jx_Cl ((jx_ws w.2.1 w.2.2.1 ad h).set (b - 48) (ad b, .inr (c0, (fs.map (jx_rl w.2.2.1 ad)).set (kk % 100) (jx_rl w.2.2.1 ad v)))) H1 → va_D A ((jx_ws w.2.1 w.2.2.1 ad h).set (b - 48) (ad b, .inr (c0, (fs.map (jx_rl w.2.2.1 ad)).set (kk % 100) (jx_rl w.2.2.1 ad v)))) → va_S A s.heap H1 locs1 → W p l e R s m args below meth c H1 locs1 cells slots Q (F0 m (pc + 3) lm (r.map (jx_rl w.2.2.1 ad))) := by
              intro H1 locs1 p1 p2 p3
              rw [← List.map_set] at p1 p2
              refine k1 r b (.inr (c0, fs.set (kk % 100) v)) H1 locs1 g4 hge ⟨h2, by rw [List.length_set]; exact hok.2.1, fun u hu => ?_⟩ (jx_vs_t (jx_vs_t hcs)) p1 p2 p3
              rcases List.mem_or_eq_of_mem_set hu with z | z
              · exact hok.2.2 u z
              · rw [z]; exact g1
            rcases h4 with ⟨hf, h4 | ⟨host, h4⟩⟩ | ⟨hf, hi2, hO, h4⟩
            · exact va_put hx hb hts (jx_cls h1).1 _ hty.2.1 (jx_cls h1).2.2 ho hK hP hD hS (b - 48) (at8 hge hb9 he) h1 (kk % 100) h3 (hts _ h4) (fun _ h => h) hf (hty.2.1 _ h3) g2 g3 hlen hdg hkk
            · exact va_putN hx hb hts (jx_cls h1).1 _ hty.2.1 (jx_cls h1).2.2 ho hK hP hD hS (b - 48) (at8 hge hb9 he) h1 (kk % 100) h3 (va_Nw.use rfl (G.2.1 _ h4).2) (fun _ h => h) hf (hty.2.1 _ h3) g2 g3 hlen hdg hkk
            · exact va_putF hx hb hts (jx_cls h1).1 _ hty.2.1 (jx_cls h1).2.2 ho hK hP hD hS (b - 48) (at8 hge hb9 he) h1 (kk % 100) h3 (hts _ h4) (fun _ h => h) hf (hini hi2) hO (hty.2.1 _ h3) g2 g3 hlen hdg hkk
          have hrr : ∀ x : Nat, (∃ n, jx_tyc q c0 (kk % 100) = .object n) ∨ (∃ t, jx_tyc q c0 (kk % 100) = .array t) → narrow (jx_tyc q c0 (kk % 100)) (jx_rr w.2.2.1 ad x) = jx_rr w.2.2.1 ad x ∧ fits (jx_tyc q c0 (kk % 100)) (jx_rr w.2.2.1 ad x) = true := by
            intro x hz
            have hn : jx_rr w.2.2.1 ad x = .null ∨ ∃ a, jx_rr w.2.2.1 ad x = .ref a := by
              rcases Nat.lt_or_ge x 3 with z | z
              · rw [jx_rr_lt z]; exact hrv x z
              · rw [jx_rr_ge z]; exact Or.inr ⟨_, rfl⟩
            rcases hz with ⟨n, e⟩ | ⟨n, e⟩ <;> rcases hn with e2 | ⟨a2, e2⟩ <;> rw [e, e2] <;> exact ⟨rfl, rfl⟩
          rw [List.map_cons, List.map_cons, rl3 (jx_48 hge)]
          split at hi
          · rename_i x hkd
            cases hi
            rcases h5 with ⟨-, e⟩ | ⟨e, -⟩ | ⟨e, -⟩ | ⟨e, -⟩
            · exact kput (.int x) trivial (by rw [e]; rfl) (by rw [e]; rfl) rfl
            all_goals (rw [hkd] at e; cases e)
          · rename_i x hkd
            cases hi
            rcases h5 with ⟨e, -⟩ | ⟨-, e⟩ | ⟨e, -⟩ | ⟨e, -⟩
            · rw [hkd] at e; cases e
            · exact kput (.long x) trivial (by rw [e]; rfl) (by rw [e]; rfl) rfl
            all_goals (rw [hkd] at e; cases e)
          · rename_i x hkd
            cases hi
            rcases h5 with ⟨e, -⟩ | ⟨e, -⟩ | ⟨-, e⟩ | ⟨e, -⟩
            · rw [hkd] at e; cases e
            · rw [hkd] at e; cases e
            · exact kput (.ref x) (jx_vs_h hcs) (hrr x e).1 (hrr x e).2 rfl
            · rw [hkd] at e; cases e
          · rename_i hkd
            cases hi
            rcases h5 with ⟨e, -⟩ | ⟨e, -⟩ | ⟨-, e⟩ | ⟨e, -⟩
            · rw [hkd] at e; cases e
            · rw [hkd] at e; cases e
            · rcases e with ⟨n, e⟩ | ⟨n, e⟩
              · exact kput .null trivial (by rw [e]; rfl) (by rw [e]; rfl) rfl
              · exact kput .null trivial (by rw [e]; rfl) (by rw [e]; rfl) rfl
            · rw [hkd] at e; cases e
          · rename_i x hkd
            split at hi
            · rename_i hx1
              cases hi
              rcases h5 with ⟨e, -⟩ | ⟨e, -⟩ | ⟨e, -⟩ | ⟨-, e⟩
              · rw [hkd] at e; cases e
              · rw [hkd] at e; cases e
              · rw [hkd] at e; cases e
              · refine kput (.int x) trivial (by rw [e]; simp only [jx_rl, narrow, hx1]) ?_ rfl
                rw [e]
                show (x == 0 || x == 1) = true
                rw [← hx1]
                exact jx_bit x
            · cases hi
          · cases hi
        · cases hi
      · cases hi
    · cases hi
  | iaload =>
    obtain ⟨rfl, rfl⟩ := hR
    simp only [jx_sc] at hi
    split at hi
    · rename_i j b r
      have hb9 : b < h.2.1 := jx_vs_h (jx_vs_t hcs)
      split at hi
      · rename_i t n f he
        split at hi
        · rename_i ht
          split at hi
          · rename_i i9 hix
            cases hi
            obtain ⟨q1, q2⟩ := jx_ix_ok hix
            subst q2
            have hk9 := k0 _ rfl (jx_vs_c (v := .int (f j.toNatClampNeg)) trivial (jx_vs_t (jx_vs_t hcs)))
            rcases ht with rfl | rfl
            · have hge := jx_rw_le hw he (by decide)
              rw [List.map_cons, List.map_cons, rl3 (jx_48 hge)]
              exact va_iald hx hb hK hP (b - 48) 0 (at8 hge hb9 he) (jx_tys_at _ (by decide)) q1 hdg hk9
            · have hlt := jx_rw_ro hw hb9 he (by decide)
              have hro := jx_roAt G K hlt
              rw [he] at hro
              have hb3 : 3 ≤ b := hs8 b (by rw [← (hw.2.1 b hlt).1, he]; rfl)
              rw [List.map_cons, List.map_cons, rl3 hb3]
              exact va_ti hx hb (hro.1 rfl) hS q1 rfl hdg hk9
          · cases hi
        · cases hi
      · cases hi
    · cases hi
  | baload =>
    obtain ⟨rfl, rfl⟩ := hR
    simp only [jx_sc] at hi
    split at hi
    · rename_i j b r
      have hb9 : b < h.2.1 := jx_vs_h (jx_vs_t hcs)
      split at hi
      · rename_i t n f he
        split at hi
        · rename_i ht
          split at hi
          · rename_i i9 hix
            cases hi
            obtain ⟨q1, q2⟩ := jx_ix_ok hix
            subst q2
            have hk9 := k0 _ rfl (jx_vs_c (v := .int (f j.toNatClampNeg)) trivial (jx_vs_t (jx_vs_t hcs)))
            rcases ht with rfl | rfl | rfl
            · have hge := jx_rw_le hw he (by decide)
              rw [List.map_cons, List.map_cons, rl3 (jx_48 hge)]
              exact va_bald hx hb hK hP (b - 48) 1 (at8 hge hb9 he) (jx_tys_at _ (by decide)) q1 hdg hk9
            · have hge := jx_rw_le hw he (by decide)
              rw [List.map_cons, List.map_cons, rl3 (jx_48 hge)]
              exact va_zald hx hb hK hP (b - 48) 3 (at8 hge hb9 he) (jx_tys_at _ (by decide)) q1 hdg hk9
            · have hlt := jx_rw_ro hw hb9 he (by decide)
              have hro := jx_roAt G K hlt
              rw [he] at hro
              have hb3 : 3 ≤ b := hs8 b (by rw [← (hw.2.1 b hlt).1, he]; rfl)
              rw [List.map_cons, List.map_cons, rl3 hb3]
              exact va_tb hx hb (hro.2 rfl) hS q1 rfl hdg hk9
          · cases hi
        · cases hi
      · cases hi
    · cases hi
  | laload =>
    obtain ⟨rfl, rfl⟩ := hR
    simp only [jx_sc] at hi
    split at hi
    · rename_i j b r
      have hb9 : b < h.2.1 := jx_vs_h (jx_vs_t hcs)
      split at hi
      · rename_i n f he
        split at hi
        · rename_i i9 hix
          cases hi
          obtain ⟨q1, q2⟩ := jx_ix_ok hix
          subst q2
          have hge : 48 ≤ b := jx_wf_rw hw (by rw [he]; exact fun q => q)
          rw [List.map_cons, List.map_cons, rl3 (jx_48 hge)]
          exact va_lald hx hb hK hP (b - 48) 2 (at8 hge hb9 he) (jx_tys_at _ (by decide)) q1 hdg (k0 _ rfl (jx_vs_c (v := .long (f j.toNatClampNeg)) trivial (jx_vs_t (jx_vs_t hcs))))
        · cases hi
      · cases hi
    · cases hi
  | aaload =>
    obtain ⟨rfl, rfl⟩ := hR
    simp only [jx_sc] at hi
    split at hi
    · rename_i j b r
      have hb9 : b < h.2.1 := jx_vs_h (jx_vs_t hcs)
      split at hi
      · rename_i t n f he
        split at hi
        · rename_i ht
          split at hi
          · rename_i i9 hix
            cases hi
            obtain ⟨q1, q2⟩ := jx_ix_ok hix
            subst q2
            have hge : 48 ≤ b := jx_wf_rw hw (by rw [he]; exact fun q => q)
            have hok := hw.2.2 b hge hb9
            rw [he] at hok
            rw [List.map_cons, List.map_cons, rl3 (jx_48 hge)]
            have hk9 := k0 (va_rf (f j.toNatClampNeg) :: r) rfl (jx_vs_c (by
              cases hf : f j.toNatClampNeg with
              | none => trivial
              | some a9 => exact (hok.2.2 _ _ hf).2) (jx_vs_t (jx_vs_t hcs)))
            have e9 : jx_rl w.2.2.1 ad (va_rf (f j.toNatClampNeg)) = va_rf ((f j.toNatClampNeg).map ad) := by
              cases hf : f j.toNatClampNeg with
              | none => rfl
              | some a9 => exact jx_rr_ge (hok.2.2 _ _ hf).1
            rw [List.map_cons, e9] at hk9
            exact va_aldq (f := fun q => (f q).map ad) hx hb hK hP (b - 48) t (at8 hge hb9 he) (by rw [jx_tys_at _ ht.2, jx_ty_en ht.1 ht.2]) q1 hdg hk9
          · cases hi
        · cases hi
      · cases hi
    · cases hi
  | iastore =>
    obtain ⟨rfl, rfl⟩ := hR
    simp only [jx_sc] at hi
    split at hi
    · rename_i x j b r
      have hb9 : b < h.2.1 := jx_vs_h (jx_vs_t (jx_vs_t hcs))
      split at hi
      · rename_i n f he
        split at hi
        · rename_i i9 hix
          cases hi
          obtain ⟨q1, q2⟩ := jx_ix_ok hix
          subst q2
          have hge := jx_rw_le hw he (by decide)
          rw [List.map_cons, List.map_cons, List.map_cons, rl3 (jx_48 hge)]
          exact va_iast hx hb hK hP hD hS (b - 48) 0 (at8 hge hb9 he) (jx_tys_at _ (by decide)) q1 hdg fun H1 locs1 p1 p2 p3 =>
            k1 r b (.inl (0, n, .inl (upd f j.toNatClampNeg x))) H1 locs1 rfl hge (Or.inl rfl) (jx_vs_t (jx_vs_t (jx_vs_t hcs))) p1 p2 p3
        · cases hi
      · cases hi
    · cases hi
  | bastore =>
    obtain ⟨rfl, rfl⟩ := hR
    simp only [jx_sc] at hi
    split at hi
    · rename_i x j b r
      have hb9 : b < h.2.1 := jx_vs_h (jx_vs_t (jx_vs_t hcs))
      split at hi
      · rename_i n f he
        split at hi
        · rename_i i9 hix
          cases hi
          obtain ⟨q1, q2⟩ := jx_ix_ok hix
          subst q2
          have hge := jx_rw_le hw he (by decide)
          rw [List.map_cons, List.map_cons, List.map_cons, rl3 (jx_48 hge)]
          exact va_bast hx hb hK hP hD hS (b - 48) 1 (at8 hge hb9 he) (jx_tys_at _ (by decide)) q1 hdg fun H1 locs1 p1 p2 p3 =>
            k1 r b (.inl (1, n, .inl (upd f j.toNatClampNeg x.toInt8.toInt32))) H1 locs1 rfl hge (Or.inr (Or.inl rfl)) (jx_vs_t (jx_vs_t (jx_vs_t hcs))) p1 p2 p3
        · cases hi
      · rename_i n f he
        split at hi
        · rename_i i9 hix
          cases hi
          obtain ⟨q1, q2⟩ := jx_ix_ok hix
          subst q2
          have hge := jx_rw_le hw he (by decide)
          rw [List.map_cons, List.map_cons, List.map_cons, rl3 (jx_48 hge)]
          exact va_zast hx hb hK hP hD hS (b - 48) 3 (at8 hge hb9 he) (jx_tys_at _ (by decide)) q1 hdg fun H1 locs1 p1 p2 p3 =>
            k1 r b (.inl (3, n, .inl (upd f j.toNatClampNeg (x &&& 1)))) H1 locs1 rfl hge (Or.inr (Or.inr rfl)) (jx_vs_t (jx_vs_t (jx_vs_t hcs))) p1 p2 p3
        · cases hi
      · cases hi
    · cases hi
  | lastore =>
    obtain ⟨rfl, rfl⟩ := hR
    simp only [jx_sc] at hi
    split at hi
    · rename_i x j b r
      have hb9 : b < h.2.1 := jx_vs_h (jx_vs_t (jx_vs_t hcs))
      split at hi
      · rename_i n f he
        split at hi
        · rename_i i9 hix
          cases hi
          obtain ⟨q1, q2⟩ := jx_ix_ok hix
          subst q2
          have hge : 48 ≤ b := jx_wf_rw hw (by rw [he]; exact fun q => q)
          rw [List.map_cons, List.map_cons, List.map_cons, rl3 (jx_48 hge)]
          exact va_last hx hb hK hP hD hS (b - 48) 2 (at8 hge hb9 he) (jx_tys_at _ (by decide)) q1 hdg fun H1 locs1 p1 p2 p3 =>
            k1 r b (.inl (2, n, .inr (.inl (vp_updL f j.toNatClampNeg x)))) H1 locs1 rfl hge rfl (jx_vs_t (jx_vs_t (jx_vs_t hcs))) p1 p2 p3
        · cases hi
      · cases hi
    · cases hi
  | aastore =>
    obtain ⟨rfl, rfl⟩ := hR
    simp only [jx_sc] at hi
    split at hi
    · rename_i x j b r
      have hx9 : x < h.2.1 := jx_vs_h hcs
      have hb9 : b < h.2.1 := jx_vs_h (jx_vs_t (jx_vs_t hcs))
      split at hi
      · rename_i t n f ci fs he hex
        split at hi
        · rename_i ht
          split at hi
          · rename_i i9 hix
            cases hi
            obtain ⟨q1, q2⟩ := jx_ix_ok hix
            subst q2
            have hge : 48 ≤ b := jx_wf_rw hw (by rw [he]; exact fun q => q)
            have hok := hw.2.2 b hge hb9
            rw [he] at hok
            have hx3 : 3 ≤ x := by
              rcases Nat.lt_or_ge x 3 with q | q
              · rw [(hw.2.1 x (Nat.lt_trans q (by decide))).1] at hex
                exact absurd hex (hs3 x q _)
              · exact q
            have eu : (fun q => (va_up f j.toNatClampNeg (some x) q).map ad) = va_up (fun q => (f q).map ad) j.toNatClampNeg (some (ad x)) := by
              funext q
              simp only [va_up]
              split <;> rfl
            have hk9 : ∀ (H1 : Heap) (locs1 : List Loc), va_P w.1 jx_Cl ((jx_ws w.2.1 w.2.2.1 ad h).set (b - 48) (ad b, .inl (w.2.1 t, n, .inr (.inr (.inr (.inr (va_up (fun q => (f q).map ad) j.toNatClampNeg (some (ad x)))))))) ) H1 → va_D A ((jx_ws w.2.1 w.2.2.1 ad h).set (b - 48) (ad b, .inl (w.2.1 t, n, .inr (.inr (.inr (.inr (va_up (fun q => (f q).map ad) j.toNatClampNeg (some (ad x))))))))) → va_S A s.heap H1 locs1 → W p l e R s m args below meth c H1 locs1 cells slots Q (F0 m (pc + 1) lm (r.map (jx_rl w.2.2.1 ad))) := by
              intro H1 locs1 p1 p2 p3
              rw [← eu] at p1 p2
              refine k1 r b (.inl (t, n, .inr (.inr (.inr (.inr (va_up f j.toNatClampNeg (some x))))))) H1 locs1 rfl hge ⟨ht.1, ht.2.1, fun q a9 z => ?_⟩ (jx_vs_t (jx_vs_t (jx_vs_t hcs))) p1 p2 p3
              simp only [va_up] at z
              split at z
              · cases z; exact ⟨hx3, hx9⟩
              · exact hok.2.2 _ _ z
            have hty : (jx_tys w.2.1)[t]? = some (w.2.1 t, .object (jx_en t)) := by rw [jx_tys_at _ ht.2.1, jx_ty_en ht.1 ht.2.1]
            rw [List.map_cons, List.map_cons, List.map_cons, rl3 (jx_48 hge), rl3 hx3]
            rcases Nat.lt_or_ge x 48 with hlt | hge2
            · have hro := jx_roAt G K hlt
              have hrt := (hw.2.1 x hlt).2
              rw [← (hw.2.1 x hlt).1, hex] at hrt
              rw [hex] at hro
              obtain ⟨v0, -, -, g2, -, -⟩ := hro
              have ht4 : t = 4 := by
                have e1 := hrt.1
                have e2 := ht.2.2
                rw [e1] at e2
                have h4 := ht.1
                have h8 := ht.2.1
                exact jx_et19 h4 h8 e2
              subst ht4
              obtain ⟨cellV, f1, f2, f3, -⟩ := g2.kept hS.2.1
              refine va_astqM hx hb hK hP hD hS (b - 48) 4 (at8 hge hb9 he) hty ⟨cellV, f1, f2, ?_, fun comp hcomp => ?_⟩ q1 hdg hk9
              · obtain ⟨k9, h9, -⟩ := Vm.findClass_spec f3
                exact ⟨k9, h9⟩
              · have : comp = cellV.cls := Option.some.inj (hcomp.symm.trans f3)
                rw [this]
                exact va_asg _ _
            · have hok2 := hw.2.2 x hge2 hx9
              rw [hex] at hok2
              obtain ⟨r9, g1, g2⟩ := jx_et_cl ht.1 ht.2.1 ht.2.2 hok2.1
              rw [← g2] at hty
              exact va_astq hx hb hK hP hD hS (b - 48) t (x - 48) ci (at8 hge hb9 he) hty (at8 hge2 hx9 hex) g1 q1 hdg hk9
          · cases hi
        · cases hi
      · cases hi
    · cases hi
  | arraylength =>
    obtain ⟨rfl, rfl⟩ := hR
    simp only [jx_sc] at hi
    split at hi
    · rename_i b r
      have hb9 : b < h.2.1 := jx_vs_h hcs
      split at hi
      · rename_i t n y he
        split at hi
        · rename_i ht
          cases hi
          have hk9 := k0 _ rfl (jx_vs_c (v := .int (Int32.ofNat n)) trivial (jx_vs_t hcs))
          rcases Nat.lt_or_ge b 48 with hlt | hge
          · have hro := jx_roAt G K hlt
            have hrt := (hw.2.1 b hlt).2
            rw [← (hw.2.1 b hlt).1, he] at hrt
            rw [he] at hro
            obtain f | f | f | f | f := y
            · have h89 : t = 8 ∨ t = 9 := jx_89 hrt ht
              have hb3 : 3 ≤ b := hs8 b (by rw [← (hw.2.1 b hlt).1, he]; rcases h89 with z | z <;> rw [z] <;> rfl)
              rw [List.map_cons, rl3 hb3]
              rcases h89 with z | z
              · exact va_tlen hx hb (hro.1 z) hS rfl hdg hk9
              · exact va_tlen hx hb (hro.2 z) hS rfl hdg hk9
            · exact absurd hrt id
            · exact absurd hrt id
            · exact absurd hrt id
            · exact absurd hrt id
          · have hok := hw.2.2 b hge hb9
            rw [he] at hok
            rw [List.map_cons, rl3 (jx_48 hge)]
            have ht8 : t < 8 := by
              obtain f | f | f | f | f := y
              · rcases hok with z | z | z <;> rw [z] <;> decide
              · rw [show t = 2 from hok]; decide
              · exact absurd hok id
              · exact absurd hok id
              · exact hok.2.1
            have hr9 : ∃ x9 : vp_A, jx_re w.2.1 w.2.2.1 ad (.inl (t, n, y)) = .inl (w.2.1 t, x9) ∧ x9.1 = n := by
              obtain f | f | f | f | f := y <;> exact ⟨_, rfl, rfl⟩
            obtain ⟨x9, z1, z2⟩ := hr9
            have := at8 hge hb9 he
            rw [z1] at this
            exact va_alen hx hb hK hP (b - 48) t this (jx_tys_at _ ht8) (by rw [z2]) hdg hk9
        · cases hi
      · cases hi
    · cases hi
  | newarray t9 =>
    obtain ⟨rfl, rfl⟩ := hR
    have knew : ∀ (t : Nat) (ty : FieldType) (a0 : Nat → vp_A), t < 4 → jx_ty t = ty → newarray.typeOf t9 = ty → (Cond.arrayClass ty) ∈ lw_all → componentBytes ty ≤ 8 →
        (∀ N (cA : ClassId), vp_cell cA (a0 N) = arrV cA N (fun _ => defaultValue ty)) → (∀ N, jx_re w.2.1 w.2.2.1 ad (.inl (t, a0 N)) = .inl (w.2.1 t, a0 N)) → (∀ ad' N, jx_re w.2.1 w.2.2.1 ad' (.inl (t, a0 N)) = jx_re w.2.1 w.2.2.1 ad (.inl (t, a0 N))) → (∀ N, jx_ok 0 (.inl (t, a0 N))) →
        (∀ x : Int32, (if t = 2 then jx_L 2 x.toNatClampNeg (fun _ => 0) else if t < 4 then jx_I t x.toNatClampNeg (fun _ => 0) else jx_Q t x.toNatClampNeg (fun _ => none)) = .inl (t, a0 x.toNatClampNeg)) → (∀ cA cB : ClassId, va_RA s cA ty → va_RA s cB ty → cA = cB) →
        jx_ar t ls st h = some a → W p l e R s m args below meth c H locs cells slots Q (F0 m pc lm (st.map (jx_rl w.2.2.1 ad))) := by
      intro t ty a0 ht4 hty htO hword hcb hcell hre hre2 hok0 hif hRA hi
      simp only [jx_ar, hif] at hi
      split at hi
      · rename_i x r _
        split at hi
        · rename_i hx9
          cases hi
          obtain ⟨g1, g2⟩ := jx_len_ok hx9
          have hbd := hB _ _ rfl
          simp only [jx_new] at hbd
          refine va_newa (atype := t9) (ty := ty) (a0 := a0 x.toNatClampNeg) hx hb (hts _ (by rw [htO]; exact hword)) htO hK hP hD hS hA (hcell _) g1 rfl ?_ (by omega) (by omega) hdg ?_
          · exact Nat.le_trans (Nat.mul_le_mul g2 hcb) (by decide)
          · intro q cA H1 hK1 p1 p2 p3
            have hcA : cA = w.2.1 t := by
              refine hRA _ _ ?_ ?_
              · exact (hK1.2 8 (cA, ty) (by rw [List.getElem?_append_right (by simp [jx_tys])]; simp [jx_tys])).2
              · rw [← hty]; exact (hK.2 t _ (jx_tys_at _ (Nat.lt_trans ht4 (by decide)))).2
            rw [hcA, ← hre] at p1 p2
            exact k2 r _ _ q H1 rfl (fun ad' => hre2 ad' _) (hok0 _) (jx_vs_t hcs) p1 p2 p3
        · cases hi
      · cases hi
    cases t9 with
    | int => exact knew 0 .int (fun N => (N, .inl (fun _ => 0))) (by decide) rfl rfl q248 (by decide) (fun _ _ => rfl) (fun _ => rfl) (fun _ _ => rfl) (fun _ => Or.inl rfl) (fun _ => rfl) (fun cA cB h1 h2 => Option.some.inj (h1.symm.trans h2)) hi
    | byte => exact knew 1 .byte (fun N => (N, .inl (fun _ => 0))) (by decide) rfl rfl q323 (by decide) (fun _ _ => rfl) (fun _ => rfl) (fun _ _ => rfl) (fun _ => Or.inr (Or.inl rfl)) (fun _ => rfl) (fun cA cB h1 h2 => Option.some.inj (h1.symm.trans h2)) hi
    | long => exact knew 2 .long (fun N => (N, .inr (.inl (fun _ => 0)))) (by decide) rfl rfl q249 (by decide) (fun _ _ => rfl) (fun _ => rfl) (fun _ _ => rfl) (fun _ => rfl) (fun _ => rfl) (fun cA cB h1 h2 => Option.some.inj (h1.symm.trans h2)) hi
    | boolean => exact knew 3 .boolean (fun N => (N, .inl (fun _ => 0))) (by decide) rfl rfl q422 (by decide) (fun _ _ => rfl) (fun _ => rfl) (fun _ _ => rfl) (fun _ => Or.inr (Or.inr rfl)) (fun _ => rfl) (fun cA cB h1 h2 => Option.some.inj (h1.symm.trans h2)) hi
    | _ => cases hi
  | anewarray t =>
    obtain ⟨x9, rfl, rfl, hlk⟩ := hR
    simp only [jx_sc, jx_ar] at hi
    split at hi
    · rename_i ht
      split at hi
      · rename_i x r
        split at hi
        · rename_i hx9
          rw [if_neg (show ¬ t = 2 from fun z => absurd ht.1 (by rw [z]; decide)), if_neg (Nat.not_lt.mpr ht.1)] at hi
          cases hi
          obtain ⟨g1, g2⟩ := jx_len_ok hx9
          have hbd := hB _ _ rfl
          simp only [jx_new] at hbd
          refine va_newq hx hb ho (hts _ hlk) (G.2.2.1 t ht.1 ht.2) hK hP hD hS hA g1 rfl (Nat.le_trans (Nat.mul_le_mul_right 4 g2) (by decide)) (by omega) (by omega) hdg ?_
          intro q cA H1 hK1 p1 p2 p3
          have hcA : cA = w.2.1 t := by
            have r1 := (hK1.2 8 (cA, .object (jx_en t)) (by rw [List.getElem?_append_right (by simp [jx_tys])]; simp [jx_tys])).2
            have r2 := (hK.2 t _ (jx_tys_at _ ht.2)).2
            rw [jx_ty_en ht.1 ht.2] at r2
            obtain ⟨_, _, _, _, _, z1⟩ := r1
            obtain ⟨_, _, _, _, _, z2⟩ := r2
            exact Option.some.inj (z1.symm.trans z2)
          rw [hcA] at p1 p2
          exact k2 r (jx_Q t x.toNatClampNeg (fun _ => none)) _ q H1 rfl (fun _ => rfl) ⟨ht.1, ht.2, fun _ _ z => by cases z⟩ (jx_vs_t hcs) p1 p2 p3
        · cases hi
      · cases hi
    · cases hi
  | new ci =>
    obtain ⟨x9, q9, rfl, rfl, h1, h2, h3, h4, h5⟩ := hR
    cases hi
    have hty := jx_tyc_ok h1 h2
    have hln := jx_nf_len h2
    have hbd := hB _ _ rfl
    simp only [jx_new] at hbd
    rw [hln.1, ← hty.1] at hbd
    refine va_new (fs := jx_nf ci) hx hb hts (jx_cls h1).1 _ hty.2.1 ho (hts _ h3) (hts _ h4) (hts _ h5) hK hP hD hS hA h1 hty.2.2 (by omega) (by omega) hdg ?_
    intro q H1 p1 p2 p3
    have e9 : ∀ ad', jx_re w.2.1 w.2.2.1 ad' (.inr (ci, jx_nf ci)) = .inr (ci, jx_nf ci) := fun ad' => by simp only [jx_re]; rw [jx_nf_rl h2]
    rw [← e9 ad] at p1 p2
    have := k2 st (.inr (ci, jx_nf ci)) (jx_nf ci).length q H1 rfl (fun ad' => by rw [e9, e9]) ⟨h2, hln.1, hln.2⟩ hcs p1 p2 p3
    rw [hln.1, ← hty.1] at this
    exact this
  | monitorenter =>
    obtain ⟨x9, rfl, rfl, h1⟩ := hR
    simp only [jx_sc] at hi
    split at hi
    · rename_i b r
      split at hi
      · rename_i hq
        cases hi
        rw [List.map_cons, rl3 hq.1]
        have hsum := jx_cat_sum hrv (ad := ad) r
        refine W.objInit hx hb ho (hts _ h1) (hts _ q140) (hts _ q141) rfl (by rw [hml]; exact hl.1) rfl hdg hfr ?_ (k0 _ rfl (jx_vs_t hcs))
        have hm : (F0 m pc lm (.ref (ad b) :: r.map (jx_rl w.2.2.1 ad))).monitorRoom = 0 := rfl
        rw [hm]
        omega
      · cases hi
    · cases hi
  | monitorexit =>
    obtain ⟨x9, rfl, rfl, h1⟩ := hR
    simp only [jx_sc] at hi
    split at hi
    · rename_i n dp b sp b0 r
      have hb9 : b < h.2.1 := jx_vs_h (jx_vs_t (jx_vs_t hcs))
      have hb0 : b0 < h.2.1 := jx_vs_h (jx_vs_t (jx_vs_t (jx_vs_t (jx_vs_t hcs))))
      split at hi
      · rename_i n0 f n1 g he0 he1
        split at hi
        · rename_i hq
          split at hi
          · rename_i hr4
            cases hi
            have hge0 := jx_rw_le hw he0 (by decide)
            have hge1 := jx_rw_le hw he1 (by decide)
            rw [List.map_cons, List.map_cons, List.map_cons, List.map_cons, List.map_cons, rl3 (jx_48 hge0), rl3 (jx_48 hge1)]
            have hsum := jx_cat_sum hrv (ad := ad) r
            have nn : ∀ z : Int32, 0 ≤ z.toInt → ¬ z < 0 ∧ (z.toNatClampNeg : Int) = z.toInt := by
              intro z hz
              have hc : z.toNatClampNeg = z.toInt.toNat := rfl
              refine ⟨fun q => ?_, by omega⟩
              have := Int32.lt_iff_toInt_lt.mp q
              have h0 : (0 : Int32).toInt = 0 := by decide
              omega
            have a1 := nn n hq.1
            have a2 := nn sp hq.2.1
            have a3 := nn dp hq.2.2.1
            refine va_copyi (ty := .int) hx hb (by rw [hml]; exact hl.1.symm) ho (hts _ h1) (hts _ q477) (hts _ q476) (hts _ q116) hK hP hD hS (b0 - 48) (b - 48) 0 0 (at8 hge0 hb0 he0) (at8 hge1 hb9 he1) (jx_tys_at _ (by decide)) (jx_tys_at _ (by decide)) rfl a2.1 a3.1 a1.1 (by omega) (by omega) (fun _ _ => rfl) hfr ?_ hdg fun H1 locs1 p1 p2 p3 =>
              k1 r b (.inl (0, n1, .inl (va_cpy f g sp.toNatClampNeg dp.toNatClampNeg n.toNatClampNeg))) H1 locs1 rfl hge1 (Or.inl rfl) (jx_vs_t (jx_vs_t (jx_vs_t (jx_vs_t (jx_vs_t hcs))))) p1 p2 p3
            have hz : nativeFrameWords "java/lang/System" "arraycopy" 5 = 7 := by decide +kernel
            rw [hz]
            omega
          · cases hi
        · cases hi
      · cases hi
    · cases hi
  | swap =>
    obtain ⟨x9, rfl, rfl, h1⟩ := hR
    simp only [jx_sc] at hi
    split at hi
    · rename_i y x r
      split at hi
      · rename_i h4
        cases hi
        have hsum := jx_cat_sum hrv (ad := ad) r
        have hbd := hB _ _ rfl
        exact va_mmax hx hb (by rw [hml]; exact hl.1.symm) ho (hts _ h1) (hts _ q849) (hts _ q131) (hts _ q850) hfr (by omega) (by omega) (by omega) hdg (k0 _ rfl (jx_vs_c trivial (jx_vs_t (jx_vs_t hcs))))
      · cases hi
    · cases hi
  | nop =>
    obtain ⟨x9, rfl, rfl, h1⟩ := hR
    simp only [jx_sc] at hi
    split at hi
    · rename_i y x r
      split at hi
      · rename_i h4
        cases hi
        have hsum := jx_cat_sum hrv (ad := ad) r
        have hbd := hB _ _ rfl
        exact va_mmin hx hb (by rw [hml]; exact hl.1.symm) ho (hts _ h1) (hts _ q903) (hts _ q131) (hts _ q904) hfr (by omega) (by omega) (by omega) hdg (k0 _ rfl (jx_vs_c trivial (jx_vs_t (jx_vs_t hcs))))
      · cases hi
    · cases hi
  | _ => exact absurd hR id
end JXD
