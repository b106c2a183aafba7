/-! STEPS WITHOUT THE HEAP -/
def jx_RIa (O : String) (SR : List (String × Nat × Nat × String)) (nL : Nat) (i0 : Instr) (len : Nat) : Instr → Prop
  | .iconst v => (i0 = .iconst v ∧ len = 1) ∨ (i0 = .bipush v ∧ len = 2 ∧ (Int8.ofInt v).toInt32 = Int32.ofInt v) ∨ (i0 = .sipush v ∧ len = 3 ∧ (Int16.ofInt v).toInt32 = Int32.ofInt v) ∨ (∃ k, i0 = .ldc k ∧ len = 2 ∧ Cond.constant O k (Int32.ofInt v) ∈ lw_all) ∨ ∃ k, i0 = .ldc_w k ∧ len = 3 ∧ Cond.constant O k (Int32.ofInt v) ∈ lw_all
  | .jsr v => (∃ n : Fin 2, i0 = .lconst n ∧ len = 1 ∧ Int64.ofNat (n : Nat) = Int64.ofInt v) ∨ ∃ k, i0 = .ldc2_w k ∧ len = 3 ∧ Cond.constantLong O k (Int64.ofInt v) ∈ lw_all
  | .ldc k => ∃ x tx, (O, x, k, tx) ∈ SR ∧ ((i0 = .ldc x ∧ len = 2) ∨ (i0 = .ldc_w x ∧ len = 3))
  | .aconst_null => i0 = .aconst_null ∧ len = 1
  | .getstatic k => ∃ x, i0 = .getstatic x ∧ len = 3 ∧ k < 4 ∧ Cond.fieldLink O x (jx_sf k).1 (jx_sf k).2.1 (jx_sf k).2.2 ∈ lw_all
  | .iload k => (i0 = .iload k ∧ len = 2) ∨ ∃ n : Fin 4, i0 = .iload_n n ∧ (n : Nat) = k ∧ len = 1
  | .lload k => (i0 = .lload k ∧ len = 2) ∨ ∃ n : Fin 4, i0 = .lload_n n ∧ (n : Nat) = k ∧ len = 1
  | .aload k => (i0 = .aload k ∧ len = 2) ∨ ∃ n : Fin 4, i0 = .aload_n n ∧ (n : Nat) = k ∧ len = 1
  | .istore k => k < nL ∧ ((i0 = .istore k ∧ len = 2) ∨ ∃ n : Fin 4, i0 = .istore_n n ∧ (n : Nat) = k ∧ len = 1)
  | .lstore k => k + 1 < nL ∧ ((i0 = .lstore k ∧ len = 2) ∨ ∃ n : Fin 4, i0 = .lstore_n n ∧ (n : Nat) = k ∧ len = 1)
  | .astore k => k < nL ∧ ((i0 = .astore k ∧ len = 2) ∨ ∃ n : Fin 4, i0 = .astore_n n ∧ (n : Nat) = k ∧ len = 1)
  | .iinc k n => k < nL ∧ i0 = .iinc k n ∧ len = 3
  | .iadd => i0 = .iadd ∧ len = 1
  | .isub => i0 = .isub ∧ len = 1
  | .imul => i0 = .imul ∧ len = 1
  | .iand => i0 = .iand ∧ len = 1
  | .ior => i0 = .ior ∧ len = 1
  | .ixor => i0 = .ixor ∧ len = 1
  | .ishl => i0 = .ishl ∧ len = 1
  | .ishr => i0 = .ishr ∧ len = 1
  | .iushr => i0 = .iushr ∧ len = 1
  | .ladd => i0 = .ladd ∧ len = 1
  | .lsub => i0 = .lsub ∧ len = 1
  | .lmul => i0 = .lmul ∧ len = 1
  | .land => i0 = .land ∧ len = 1
  | .lor => i0 = .lor ∧ len = 1
  | .idiv => i0 = .idiv ∧ len = 1
  | .irem => i0 = .irem ∧ len = 1
  | .ldiv => i0 = .ldiv ∧ len = 1
  | .lrem => i0 = .lrem ∧ len = 1
  | .lcmp => i0 = .lcmp ∧ len = 1
  | .i2l => i0 = .i2l ∧ len = 1
  | .l2i => i0 = .l2i ∧ len = 1
  | .i2b => i0 = .i2b ∧ len = 1
  | .i2c => i0 = .i2c ∧ len = 1
  | .pop => i0 = .pop ∧ len = 1
  | .dup => i0 = .dup ∧ len = 1
  | .dup_x1 => i0 = .dup_x1 ∧ len = 1
  | .dup2 => i0 = .dup2 ∧ len = 1
  | _ => False
theorem jx_vs_nil {n : Nat} : jx_vs n [] := fun _ h => absurd h List.not_mem_nil
theorem jx_vs_c {n : Nat} {v : Value} {l : List Value} (h1 : jx_vk n v) (h2 : jx_vs n l) : jx_vs n (v :: l) := fun u hu => by
  rcases List.mem_cons.mp hu with e | e
  · rw [e]; exact h1
  · exact h2 u e
theorem jx_vs_t {n : Nat} {v : Value} {l : List Value} (h : jx_vs n (v :: l)) : jx_vs n l := fun u hu => h u (List.mem_cons_of_mem _ hu)
theorem jx_vs_h {n : Nat} {v : Value} {l : List Value} (h : jx_vs n (v :: l)) : jx_vk n v := h v List.mem_cons_self
theorem jx_vs_s1 {n : Nat} {ls : List Value} {k : Nat} {v : Value} (h : jx_vs n ls) (hv : jx_vk n v) : jx_vs n (jx_s1 ls k v) := by
  intro u hu
  obtain ⟨j, hj⟩ := List.getElem?_of_mem hu
  by_cases hk : k < ls.length
  · rw [jx_s1_get hk] at hj
    split at hj
    · cases hj; exact hv
    · split at hj
      · cases hj; simp [jx_un, jx_vk]
      · split at hj
        · cases hj; simp [jx_un, jx_vk]
        · exact h u (List.mem_of_getElem? hj)
  · have hg : jx_gl ls k = jx_un := by simp [jx_gl, List.getElem?_eq_none (Nat.le_of_not_lt hk)]
    have : jx_s1 ls k v = ls := by
      simp only [jx_s1, hg]
      rw [if_neg (by decide), if_neg (by decide)]
      exact List.set_eq_of_length_le (Nat.le_of_not_lt hk)
    rw [this] at hj
    exact h u (List.mem_of_getElem? hj)
theorem jx_vs_s2 {n : Nat} {ls : List Value} {k : Nat} {x : Int64} (h : jx_vs n ls) : jx_vs n (jx_s2 ls k x) := jx_vs_s1 (jx_vs_s1 h (by simp [jx_sn, jx_vk])) (by simp [jx_vk])
theorem jx_as_at {rv : Nat → Value} {ad : Nat → Nat} {ls : List Value} {k : Nat} {v : Value} (h : jx_gl ls k = v) (hd : jx_df v = true) : ∃ i : Nat, (jx_as rv ad ls)[i]? = some (k, jx_rl rv ad v) := by
  apply List.getElem?_of_mem
  apply jx_as_mem.mpr
  unfold jx_gl at h
  cases hk : ls[k]? with
  | none => rw [hk] at h; subst h; cases hd
  | some u => rw [hk] at h; simp at h; subst h; exact ⟨u, rfl, hd, rfl⟩
section JXA
variable {p : Program} {l : Launch} {e : Env} {R : Room} {s : State} {m : MethodId} {args : Array Value} {below : List Frame} {meth : Method} {c : Code} {H : Heap} {locs : List Loc} {cells slots : Nat} {Q : State → Prop}
variable {cc : ByteArray} {pc nL : Nat} {lm : Array Slot} {A : Nat → Prop} {w : jx_W} {ad : Nat → Nat} {O : String} {ls st : List Value} {h : jx_H}
/-- the ldc of a string through the wide form -/
theorem jx_ldcW (hexec : p.tables.exec = Jvm.exec) (hb : c.code = cc) {own tx : String} {index q : Nat} {rest : List Value} (hown : s.vm.findClass own = some m.cls) (hZ : vk_R own index tx q s) (hdg : decode cc pc = .ok (.ldc_w index, 3))
    (k : W p l e R s m args below meth c H locs cells slots Q (F0 m (pc + 3) lm (.ref q :: rest))) : W p l e R s m args below meth c H locs cells slots Q (F0 m pc lm rest) := by
  intro T hT X
  obtain ⟨t, a1, b1⟩ := k T hT X
  exact ⟨t, X.ldcStringW hexec hown (text := tx) (a := q) hZ.1 hZ.2 (g := F0 m pc lm rest) rfl (by rw [hb]; exact hdg) t a1, b1⟩
set_option maxHeartbeats 4000000 in
theorem jx_sa_ok (X : CallFix p m c cc nL s args lw_all O) (G : jx_G w ad A s s.heap) (hS : va_S A s.heap H locs) {i i0 : Instr} {len : Nat} {a : jx_A} (hi : jx_sa i ls st h = some a) (hdg : decode cc pc = .ok (i0, len)) (hR : jx_RIa O w.2.2.2.2.2 nL i0 len i)
    (hl : jx_lr w.2.2.1 ad nL ls lm) (hcl : jx_vs h.2.1 ls) (hcs : jx_vs h.2.1 st) (h48 : 48 ≤ h.2.1) (hsr : ∀ q ∈ w.2.2.2.2.2, q.2.2.1 < 22)
    (k : ∀ (ls' st' : List Value) (lm' : Array Slot), a = .inl (ls', st', h) → jx_lr w.2.2.1 ad nL ls' lm' → jx_vs h.2.1 ls' → jx_vs h.2.1 st' → W p l e R s m args below meth c H locs cells slots Q (F0 m (pc + len) lm' (st'.map (jx_rl w.2.2.1 ad)))) :
    W p l e R s m args below meth c H locs cells slots Q (F0 m pc lm (st.map (jx_rl w.2.2.1 ad))) := by
  obtain ⟨hx, hb, hml, ho, hts⟩ := X
  have hrv := G.2.2.2.2.2.2
  cases i with
  | iconst v =>
    cases hi
    have k := k _ _ _ rfl hl hcl (jx_vs_c trivial hcs)
    rcases hR with ⟨rfl, rfl⟩ | ⟨rfl, rfl, e⟩ | ⟨rfl, rfl, e⟩ | ⟨x, rfl, rfl, q⟩ | ⟨x, rfl, rfl, q⟩
    · exact lv_iconst hx hb hdg rfl k
    · exact lv_bipush hx hb hdg e k
    · exact lv_sipush hx hb hdg e k
    · exact lv_ldc hx hb ho (hts _ q) hdg k
    · exact lv_ldcw hx hb ho (hts _ q) hdg k
  | jsr v =>
    cases hi
    have k := k _ _ _ rfl hl hcl (jx_vs_c trivial hcs)
    rcases hR with ⟨n, rfl, rfl, e⟩ | ⟨x, rfl, rfl, q⟩
    · exact lv_lconst hx hb hdg e k
    · exact lv_ldc2 hx hb ho (hts _ q) hdg k
  | ldc j =>
    cases hi
    obtain ⟨x, tx, q, hR⟩ := hR
    have hj : j < 22 := hsr _ q
    have k := k _ _ _ rfl hl hcl (jx_vs_c (show 4 + j < h.2.1 by omega) hcs)
    have hv := G.2.2.2.1 _ q
    have e : jx_rl w.2.2.1 ad (.ref (4 + j)) = .ref (ad (4 + j)) := jx_rr_ge (by omega)
    rw [List.map_cons, e] at k
    rcases hR with ⟨rfl, rfl⟩ | ⟨rfl, rfl⟩
    · exact va_ldcS hx hb ho hv hdg k
    · exact jx_ldcW hx hb ho hv hdg k
  | aconst_null =>
    cases hi
    obtain ⟨rfl, rfl⟩ := hR
    exact lv_null hx hb hdg (k _ _ _ rfl hl hcl (jx_vs_c trivial hcs))
  | getstatic j =>
    cases hi
    obtain ⟨x, rfl, rfl, q1, q2⟩ := hR
    have k := k _ _ _ rfl hl hcl (jx_vs_c (show jx_vk h.2.1 (if j = 3 then .int 1 else .ref j) by split <;> first | trivial | (show j < h.2.1; omega)) hcs)
    refine va_gets hx hb (G.2.2.2.2.1 j q1) hS ho (hts _ q2) (fun _ h => h) hdg ?_
    have e : jx_sv w.2.2.1 j = jx_rl w.2.2.1 ad (if j = 3 then .int 1 else .ref j) := by
      unfold jx_sv
      split
      · rfl
      · exact (jx_rr_lt (by omega)).symm
    rw [e]
    exact k
  | iload j =>
    simp only [jx_sa] at hi
    split at hi
    · rename_i x hg
      cases hi
      have k := k _ _ _ rfl hl hcl (jx_vs_c trivial hcs)
      have hv := jx_lr_at hl hg rfl
      rcases hR with ⟨rfl, rfl⟩ | ⟨n, rfl, e, rfl⟩
      · exact lv_iload hx hb hdg hv k
      · exact lv_iload_n hx hb hdg e hv k
    · cases hi
  | lload j =>
    simp only [jx_sa] at hi
    split at hi
    · rename_i x hg
      cases hi
      have k := k _ _ _ rfl hl hcl (jx_vs_c trivial hcs)
      have hv := jx_lr_at hl hg rfl
      rcases hR with ⟨rfl, rfl⟩ | ⟨n, rfl, e, rfl⟩
      · exact lv_lload hx hb hdg hv k
      · exact lv_lload_n hx hb hdg e hv k
    · cases hi
  | aload j =>
    simp only [jx_sa] at hi
    split at hi
    · rename_i x hg
      cases hi
      have k := k _ _ _ rfl hl hcl (jx_vs_c (jx_lr_mem hcl hg) hcs)
      have hv := jx_lr_at hl hg rfl
      by_cases h3 : x < 3
      · have e3 : jx_rl w.2.2.1 ad (.ref x) = w.2.2.1 x := jx_rr_lt h3
        rw [List.map_cons, e3] at k
        rw [e3] at hv
        rcases hrv x h3 with e4 | ⟨a, e4⟩
        · rw [e4] at k hv
          rcases hR with ⟨rfl, rfl⟩ | ⟨n, rfl, e, rfl⟩
          · exact lv_aloadN hx hb hdg hv k
          · exact lv_aload_nN hx hb hdg e hv k
        · rw [e4] at k hv
          rcases hR with ⟨rfl, rfl⟩ | ⟨n, rfl, e, rfl⟩
          · exact lv_aload hx hb hdg hv k
          · exact lv_aload_n hx hb hdg e hv k
      · have e3 : jx_rl w.2.2.1 ad (.ref x) = .ref (ad x) := jx_rr_ge (Nat.not_lt.mp h3)
        rw [List.map_cons, e3] at k
        rw [e3] at hv
        rcases hR with ⟨rfl, rfl⟩ | ⟨n, rfl, e, rfl⟩
        · exact lv_aload hx hb hdg hv k
        · exact lv_aload_n hx hb hdg e hv k
    · rename_i hg
      cases hi
      have k := k _ _ _ rfl hl hcl (jx_vs_c trivial hcs)
      have hv := jx_lr_at hl hg rfl
      rcases hR with ⟨rfl, rfl⟩ | ⟨n, rfl, e, rfl⟩
      · exact lv_aloadN hx hb hdg hv k
      · exact lv_aload_nN hx hb hdg e hv k
    · cases hi
  | istore j =>
    simp only [jx_sa] at hi
    obtain ⟨hj, hR⟩ := hR
    split at hi
    · rename_i x r
      cases hi
      rcases hR with ⟨rfl, rfl⟩ | ⟨n, rfl, e, rfl⟩
      · exact lv_istore hx hb hdg (jx_lr_has hl) hj rfl fun lm' h' => k _ _ _ rfl (jx_s1_ok hl hj (by simp [jx_is2]) (by simp [jx_sn]) (fun _ => rfl) h' hrv) (jx_vs_s1 hcl trivial) (jx_vs_t hcs)
      · exact lv_istore_n hx hb hdg e (jx_lr_has hl) hj rfl fun lm' h' => k _ _ _ rfl (jx_s1_ok hl hj (by simp [jx_is2]) (by simp [jx_sn]) (fun _ => rfl) h' hrv) (jx_vs_s1 hcl trivial) (jx_vs_t hcs)
    · cases hi
  | lstore j =>
    simp only [jx_sa] at hi
    obtain ⟨hj, hR⟩ := hR
    split at hi
    · rename_i x r
      cases hi
      rcases hR with ⟨rfl, rfl⟩ | ⟨n, rfl, e, rfl⟩
      · exact lv_lstore hx hb hdg (jx_lr_has hl) hj rfl fun lm' h' => k _ _ _ rfl (jx_s2_ok hl hj h' hrv) (jx_vs_s2 hcl) (jx_vs_t hcs)
      · exact lv_lstore_n hx hb hdg e (jx_lr_has hl) hj rfl fun lm' h' => k _ _ _ rfl (jx_s2_ok hl hj h' hrv) (jx_vs_s2 hcl) (jx_vs_t hcs)
    · cases hi
  | astore j =>
    simp only [jx_sa] at hi
    obtain ⟨hj, hR⟩ := hR
    split at hi
    · rename_i x r
      cases hi
      have kk : ∀ (lm' : Array Slot), lv_has lm' nL ((j, jx_rl w.2.2.1 ad (.ref x)) :: (jx_as w.2.2.1 ad ls).filter (fun q => !(q.1 == j) && !(q.1 + 1 == j && q.2.category == 2))) → W p l e R s m args below meth c H locs cells slots Q (F0 m (pc + len) lm' (r.map (jx_rl w.2.2.1 ad))) :=
        fun lm' h' => k _ _ _ rfl (jx_s1_ok hl hj (by simp [jx_is2]) (by simp [jx_sn]) (fun _ => rfl) h' hrv) (jx_vs_s1 hcl (jx_vs_h hcs)) (jx_vs_t hcs)
      rw [List.map_cons]
      have hr : jx_rl w.2.2.1 ad (.ref x) = .null ∨ ∃ a, jx_rl w.2.2.1 ad (.ref x) = .ref a := by
        simp only [jx_rl, jx_rr]
        split
        · rename_i q; exact hrv _ q
        · exact Or.inr ⟨_, rfl⟩
      rcases hr with e4 | ⟨a, e4⟩
      · rw [e4] at kk ⊢
        rcases hR with ⟨rfl, rfl⟩ | ⟨n, rfl, e, rfl⟩
        · exact lv_astoreN hx hb hdg (jx_lr_has hl) hj rfl kk
        · exact lv_astore_nN hx hb hdg e (jx_lr_has hl) hj rfl kk
      · rw [e4] at kk ⊢
        rcases hR with ⟨rfl, rfl⟩ | ⟨n, rfl, e, rfl⟩
        · exact lv_astore hx hb hdg (jx_lr_has hl) hj rfl kk
        · exact lv_astore_n hx hb hdg e (jx_lr_has hl) hj rfl kk
    · rename_i r
      cases hi
      rcases hR with ⟨rfl, rfl⟩ | ⟨n, rfl, e, rfl⟩
      · exact lv_astoreN hx hb hdg (jx_lr_has hl) hj rfl fun lm' h' => k _ _ _ rfl (jx_s1_ok hl hj (by simp [jx_is2]) (by simp [jx_sn]) (fun _ => rfl) h' hrv) (jx_vs_s1 hcl trivial) (jx_vs_t hcs)
      · exact lv_astore_nN hx hb hdg e (jx_lr_has hl) hj rfl fun lm' h' => k _ _ _ rfl (jx_s1_ok hl hj (by simp [jx_is2]) (by simp [jx_sn]) (fun _ => rfl) h' hrv) (jx_vs_s1 hcl trivial) (jx_vs_t hcs)
    · cases hi
  | iinc j n =>
    simp only [jx_sa] at hi
    obtain ⟨hj, rfl, rfl⟩ := hR
    split at hi
    · rename_i x hg
      cases hi
      obtain ⟨q, hq⟩ := jx_as_at (rv := w.2.2.1) (ad := ad) hg rfl
      exact lv_iinc hx hb hdg (jx_lr_has hl) hq rfl hj rfl fun lm' h' => k _ _ _ rfl (jx_s1_ok hl hj (by simp [jx_is2]) (by simp [jx_sn]) (fun _ => rfl) h' hrv) (jx_vs_s1 hcl trivial) hcs
    · cases hi
  | iadd => simp only [jx_sa, jx_i2] at hi; obtain ⟨rfl, rfl⟩ := hR; split at hi <;> first | (cases hi; exact lv_iadd hx hb hdg (k _ _ _ rfl hl hcl (jx_vs_c trivial (jx_vs_t (jx_vs_t hcs))))) | (cases hi; done)
  | isub => simp only [jx_sa, jx_i2] at hi; obtain ⟨rfl, rfl⟩ := hR; split at hi <;> first | (cases hi; exact lv_isub hx hb hdg (k _ _ _ rfl hl hcl (jx_vs_c trivial (jx_vs_t (jx_vs_t hcs))))) | (cases hi; done)
  | imul => simp only [jx_sa, jx_i2] at hi; obtain ⟨rfl, rfl⟩ := hR; split at hi <;> first | (cases hi; exact lv_imul hx hb hdg (k _ _ _ rfl hl hcl (jx_vs_c trivial (jx_vs_t (jx_vs_t hcs))))) | (cases hi; done)
  | iand => simp only [jx_sa, jx_i2] at hi; obtain ⟨rfl, rfl⟩ := hR; split at hi <;> first | (cases hi; exact lv_iand hx hb hdg (k _ _ _ rfl hl hcl (jx_vs_c trivial (jx_vs_t (jx_vs_t hcs))))) | (cases hi; done)
  | ior => simp only [jx_sa, jx_i2] at hi; obtain ⟨rfl, rfl⟩ := hR; split at hi <;> first | (cases hi; exact lv_ior hx hb hdg (k _ _ _ rfl hl hcl (jx_vs_c trivial (jx_vs_t (jx_vs_t hcs))))) | (cases hi; done)
  | ixor => simp only [jx_sa, jx_i2] at hi; obtain ⟨rfl, rfl⟩ := hR; split at hi <;> first | (cases hi; exact lv_ixor hx hb hdg (k _ _ _ rfl hl hcl (jx_vs_c trivial (jx_vs_t (jx_vs_t hcs))))) | (cases hi; done)
  | ishl => simp only [jx_sa, jx_i2] at hi; obtain ⟨rfl, rfl⟩ := hR; split at hi <;> first | (cases hi; exact lv_ishl hx hb hdg (k _ _ _ rfl hl hcl (jx_vs_c trivial (jx_vs_t (jx_vs_t hcs))))) | (cases hi; done)
  | ishr => simp only [jx_sa, jx_i2] at hi; obtain ⟨rfl, rfl⟩ := hR; split at hi <;> first | (cases hi; exact lv_ishr hx hb hdg (k _ _ _ rfl hl hcl (jx_vs_c trivial (jx_vs_t (jx_vs_t hcs))))) | (cases hi; done)
  | iushr => simp only [jx_sa, jx_i2] at hi; obtain ⟨rfl, rfl⟩ := hR; split at hi <;> first | (cases hi; exact lv_iushr hx hb hdg rfl (k _ _ _ rfl hl hcl (jx_vs_c trivial (jx_vs_t (jx_vs_t hcs))))) | (cases hi; done)
  | ladd => simp only [jx_sa, jx_l2] at hi; obtain ⟨rfl, rfl⟩ := hR; split at hi <;> first | (cases hi; exact lv_ladd hx hb hdg (k _ _ _ rfl hl hcl (jx_vs_c trivial (jx_vs_t (jx_vs_t hcs))))) | (cases hi; done)
  | lsub => simp only [jx_sa, jx_l2] at hi; obtain ⟨rfl, rfl⟩ := hR; split at hi <;> first | (cases hi; exact lv_lsub hx hb hdg (k _ _ _ rfl hl hcl (jx_vs_c trivial (jx_vs_t (jx_vs_t hcs))))) | (cases hi; done)
  | lmul => simp only [jx_sa, jx_l2] at hi; obtain ⟨rfl, rfl⟩ := hR; split at hi <;> first | (cases hi; exact lv_lmul hx hb hdg (k _ _ _ rfl hl hcl (jx_vs_c trivial (jx_vs_t (jx_vs_t hcs))))) | (cases hi; done)
  | land => simp only [jx_sa, jx_l2] at hi; obtain ⟨rfl, rfl⟩ := hR; split at hi <;> first | (cases hi; exact lv_land hx hb hdg (k _ _ _ rfl hl hcl (jx_vs_c trivial (jx_vs_t (jx_vs_t hcs))))) | (cases hi; done)
  | lor => simp only [jx_sa, jx_l2] at hi; obtain ⟨rfl, rfl⟩ := hR; split at hi <;> first | (cases hi; exact lv_lor hx hb hdg (k _ _ _ rfl hl hcl (jx_vs_c trivial (jx_vs_t (jx_vs_t hcs))))) | (cases hi; done)
  | idiv => simp only [jx_sa] at hi; obtain ⟨rfl, rfl⟩ := hR; split at hi <;> first | (split at hi <;> first | (cases hi; done) | (rename_i q; cases hi; exact lv_idiv hx hb hdg q (k _ _ _ rfl hl hcl (jx_vs_c trivial (jx_vs_t (jx_vs_t hcs)))))) | (cases hi; done)
  | irem => simp only [jx_sa] at hi; obtain ⟨rfl, rfl⟩ := hR; split at hi <;> first | (split at hi <;> first | (cases hi; done) | (rename_i q; cases hi; exact lv_irem hx hb hdg q (k _ _ _ rfl hl hcl (jx_vs_c trivial (jx_vs_t (jx_vs_t hcs)))))) | (cases hi; done)
  | ldiv => simp only [jx_sa] at hi; obtain ⟨rfl, rfl⟩ := hR; split at hi <;> first | (split at hi <;> first | (cases hi; done) | (rename_i q; cases hi; exact lv_ldiv hx hb hdg q (k _ _ _ rfl hl hcl (jx_vs_c trivial (jx_vs_t (jx_vs_t hcs)))))) | (cases hi; done)
  | lrem => simp only [jx_sa] at hi; obtain ⟨rfl, rfl⟩ := hR; split at hi <;> first | (split at hi <;> first | (cases hi; done) | (rename_i q; cases hi; exact lv_lrem hx hb hdg q (k _ _ _ rfl hl hcl (jx_vs_c trivial (jx_vs_t (jx_vs_t hcs)))))) | (cases hi; done)
  | lcmp => simp only [jx_sa] at hi; obtain ⟨rfl, rfl⟩ := hR; split at hi <;> first | (cases hi; exact W.lcmp hx hb hdg (k _ _ _ rfl hl hcl (jx_vs_c trivial (jx_vs_t (jx_vs_t hcs))))) | (cases hi; done)
  | i2l => simp only [jx_sa] at hi; obtain ⟨rfl, rfl⟩ := hR; split at hi <;> first | (cases hi; exact lv_i2l hx hb hdg rfl (k _ _ _ rfl hl hcl (jx_vs_c trivial (jx_vs_t hcs)))) | (cases hi; done)
  | l2i => simp only [jx_sa] at hi; obtain ⟨rfl, rfl⟩ := hR; split at hi <;> first | (cases hi; exact lv_l2i hx hb hdg rfl (k _ _ _ rfl hl hcl (jx_vs_c trivial (jx_vs_t hcs)))) | (cases hi; done)
  | i2b => simp only [jx_sa] at hi; obtain ⟨rfl, rfl⟩ := hR; split at hi <;> first | (cases hi; exact lv_i2b hx hb hdg rfl (k _ _ _ rfl hl hcl (jx_vs_c trivial (jx_vs_t hcs)))) | (cases hi; done)
  | i2c => simp only [jx_sa] at hi; obtain ⟨rfl, rfl⟩ := hR; split at hi <;> first | (cases hi; exact lv_i2c hx hb hdg rfl (k _ _ _ rfl hl hcl (jx_vs_c trivial (jx_vs_t hcs)))) | (cases hi; done)
  | pop => simp only [jx_sa] at hi; obtain ⟨rfl, rfl⟩ := hR; split at hi <;> first | (split at hi <;> first | (cases hi; done) | (rename_i q; cases hi; exact lv_pop hx hb hdg (jx_cat hrv q) (k _ _ _ rfl hl hcl (jx_vs_t hcs)))) | (cases hi; done)
  | dup => simp only [jx_sa] at hi; obtain ⟨rfl, rfl⟩ := hR; split at hi <;> first | (split at hi <;> first | (cases hi; done) | (rename_i q; cases hi; exact lv_dup hx hb hdg (jx_cat hrv q) (k _ _ _ rfl hl hcl (jx_vs_c (jx_vs_h hcs) hcs)))) | (cases hi; done)
  | dup_x1 => simp only [jx_sa] at hi; obtain ⟨rfl, rfl⟩ := hR; split at hi <;> first | (split at hi <;> first | (cases hi; done) | (rename_i q; cases hi; exact lv_dup_x1 hx hb hdg (jx_cat hrv (fun z => q (Or.inl z))) (jx_cat hrv (fun z => q (Or.inr z))) (k _ _ _ rfl hl hcl (jx_vs_c (jx_vs_h hcs) (jx_vs_c (jx_vs_h (jx_vs_t hcs)) (jx_vs_c (jx_vs_h hcs) (jx_vs_t (jx_vs_t hcs)))))))) | (cases hi; done)
  | dup2 => simp only [jx_sa] at hi; obtain ⟨rfl, rfl⟩ := hR; split at hi <;> first | (split at hi <;> first | (cases hi; done) | (rename_i q; cases hi; exact lv_dup2_11 hx hb hdg (jx_cat hrv (fun z => q (Or.inl z))) (jx_cat hrv (fun z => q (Or.inr z))) (k _ _ _ rfl hl hcl (jx_vs_c (jx_vs_h hcs) (jx_vs_c (jx_vs_h (jx_vs_t hcs)) hcs))))) | (cases hi; done)
  | _ => exact absurd hR id
end JXA
