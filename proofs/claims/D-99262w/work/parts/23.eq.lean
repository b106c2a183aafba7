/-! EQUATIONS, AN OPCODE EACH: simp only [xA, xB, xC, ..] walks a block -/
theorem ev_stuck {d y : Nat} {c : List Instr} {ls st : List Value} {h : jx_H} {i : Instr} (q : jx_st jx_dt i ls st h = none) : jx_ev d y (i :: c) ls st h = none := by
  refine jx_ev_none fun f r => ?_
  cases f with
  | zero => intro e; cases e
  | succ f =>
    rw [jx_ex]
    show (match jx_st jx_dt i ls st h with | none => _ | some (.inl (ls', st', h')) => _ | some (.inr (.inl (L, st'))) => _ | some (.inr (.inr (.inl (z, args, st', hd)))) => _ | some (.inr (.inr (.inr o))) => _) ≠ _
    rw [q]
    intro e; cases e
def jx_iv (v : Value) (f : Int32 → Option jx_R) : Option jx_R := match v with
  | .int x => f x
  | _ => none
def jx_lv (v : Value) (f : Int64 → Option jx_R) : Option jx_R := match v with
  | .long x => f x
  | _ => none
def jx_rv (v : Value) (f : Option jx_R) : Option jx_R := match v with
  | .ref _ => f
  | .null => f
  | _ => none
def jx_ov {α : Type} (o : Option α) (f : α → Option jx_R) : Option jx_R := match o with
  | some v => f v
  | none => none
def jx_gf (x : va_E) (ci k : Nat) (f : Value → Option jx_R) : Option jx_R := match x with
  | .inr (c, fs) => if c = ci then jx_ov fs[k]? f else none
  | _ => none
def jx_pf (x : va_E) (ci kk : Nat) (v : Value) (f : va_E → Option jx_R) : Option jx_R := match x with
  | .inr (c, fs) => if c = ci then match kk / 100, v with
    | 0, .int x => f (.inr (ci, fs.set (kk % 100) (.int x)))
    | 1, .long x => f (.inr (ci, fs.set (kk % 100) (.long x)))
    | 2, .ref x => f (.inr (ci, fs.set (kk % 100) (.ref x)))
    | 2, .null => f (.inr (ci, fs.set (kk % 100) .null))
    | 3, .int x => if x &&& 1 = x then f (.inr (ci, fs.set (kk % 100) (.int x))) else none
    | _, _ => none
    else none
  | _ => none
def jx_ia (x : va_E) (j : Int32) (f : Int32 → Option jx_R) : Option jx_R := match x with
  | .inl (t, n, .inl g) => if t = 0 ∨ t = 8 then jx_ov (jx_ix j n) (fun k => f (g k)) else none
  | _ => none
def jx_ba (x : va_E) (j : Int32) (f : Int32 → Option jx_R) : Option jx_R := match x with
  | .inl (t, n, .inl g) => if t = 1 ∨ t = 3 ∨ t = 9 then jx_ov (jx_ix j n) (fun k => f (g k)) else none
  | _ => none
def jx_ja (x : va_E) (j : Int32) (f : Int64 → Option jx_R) : Option jx_R := match x with
  | .inl (2, n, .inr (.inl g)) => jx_ov (jx_ix j n) (fun k => f (g k))
  | _ => none
def jx_qa (x : va_E) (j : Int32) (f : Option Nat → Option jx_R) : Option jx_R := match x with
  | .inl (t, n, .inr (.inr (.inr (.inr g)))) => if 4 ≤ t ∧ t < 8 then jx_ov (jx_ix j n) (fun k => f (g k)) else none
  | _ => none
def jx_is (x : va_E) (j v : Int32) (f : va_E → Option jx_R) : Option jx_R := match x with
  | .inl (0, n, .inl g) => jx_ov (jx_ix j n) (fun k => f (.inl (0, n, .inl (upd g k v))))
  | _ => none
def jx_bs (x : va_E) (j v : Int32) (f : va_E → Option jx_R) : Option jx_R := match x with
  | .inl (1, n, .inl g) => jx_ov (jx_ix j n) (fun k => f (.inl (1, n, .inl (upd g k v.toInt8.toInt32))))
  | .inl (3, n, .inl g) => jx_ov (jx_ix j n) (fun k => f (.inl (3, n, .inl (upd g k (v &&& 1)))))
  | _ => none
def jx_js (x : va_E) (j : Int32) (v : Int64) (f : va_E → Option jx_R) : Option jx_R := match x with
  | .inl (2, n, .inr (.inl g)) => jx_ov (jx_ix j n) (fun k => f (.inl (2, n, .inr (.inl (vp_updL g k v)))))
  | _ => none
def jx_qs (x : va_E) (z : va_E) (j : Int32) (v : Nat) (f : va_E → Option jx_R) : Option jx_R := match x, z with
  | .inl (t, n, .inr (.inr (.inr (.inr g)))), .inr (ci, _) => if 4 ≤ t ∧ t < 8 ∧ ci = jx_et t then jx_ov (jx_ix j n) (fun k => f (.inl (t, n, .inr (.inr (.inr (.inr (va_up g k (some v)))))))) else none
  | _, _ => none
def jx_al (x : va_E) (f : Int32 → Option jx_R) : Option jx_R := match x with
  | .inl (t, n, _) => if t < 10 then f (Int32.ofNat n) else none
  | _ => none
def jx_cl9 (x : va_E) (C : Nat) (f : Option jx_R) : Option jx_R := match x with
  | .inr (ci, _) => if ci = C then f else none
  | _ => none
def jx_cl8 (x : va_E) (f : Nat → Option jx_R) : Option jx_R := match x with
  | .inr (ci, _) => f ci
  | _ => none
def jx_cp (x z : va_E) (sp dp n : Int32) (f : va_E → Option jx_R) : Option jx_R := match x, z with
  | .inl (0, n0, .inl g), .inl (0, n1, .inl g1) =>
    if 0 ≤ n.toInt ∧ 0 ≤ sp.toInt ∧ 0 ≤ dp.toInt ∧ sp.toInt + n.toInt ≤ (n0 : Int) ∧ dp.toInt + n.toInt ≤ (n1 : Int) then f (.inl (0, n1, .inl (va_cpy g g1 sp.toNatClampNeg dp.toNatClampNeg n.toNatClampNeg))) else none
  | _, _ => none
section XE
variable {d y : Nat} {c : List Instr} {ls st ls' : List Value} {h : jx_H}
theorem xe_iconst {v : Int} : jx_ev d y (.iconst v :: c) ls st h = jx_ev d y c ls (.int (Int32.ofInt v) :: st) h := ev_next rfl
theorem xe_lconst {v : Int} : jx_ev d y (.jsr v :: c) ls st h = jx_ev d y c ls (.long (Int64.ofInt v) :: st) h := ev_next rfl
theorem xe_ldc {k : Nat} : jx_ev d y (.ldc k :: c) ls st h = jx_ev d y c ls (.ref (4 + k) :: st) h := ev_next rfl
theorem xe_null : jx_ev d y (.aconst_null :: c) ls st h = jx_ev d y c ls (.null :: st) h := ev_next rfl
theorem xe_gets {k : Nat} : jx_ev d y (.getstatic k :: c) ls st h = jx_ev d y c ls ((if k = 3 then .int 1 else .ref k) :: st) h := ev_next rfl
theorem xe_iload {k : Nat} : jx_ev d y (.iload k :: c) ls st h = jx_iv (jx_gl ls k) fun x => jx_ev d y c ls (.int x :: st) h := by
  cases e : jx_gl ls k <;> simp only [jx_iv] <;> first | exact ev_next (by simp [jx_st, jx_sa, e, jx_nx]) | exact ev_stuck (by simp [jx_st, jx_sa, jx_sb, jx_sc, e])
theorem xe_lload {k : Nat} : jx_ev d y (.lload k :: c) ls st h = jx_lv (jx_gl ls k) fun x => jx_ev d y c ls (.long x :: st) h := by
  cases e : jx_gl ls k <;> simp only [jx_lv] <;> first | exact ev_next (by simp [jx_st, jx_sa, e, jx_nx]) | exact ev_stuck (by simp [jx_st, jx_sa, jx_sb, jx_sc, e])
theorem xe_aload {k : Nat} : jx_ev d y (.aload k :: c) ls st h = jx_rv (jx_gl ls k) (jx_ev d y c ls (jx_gl ls k :: st) h) := by
  cases e : jx_gl ls k <;> simp only [jx_rv] <;> first | exact ev_next (by simp [jx_st, jx_sa, e, jx_nx]) | exact ev_stuck (by simp [jx_st, jx_sa, jx_sb, jx_sc, e])
theorem xe_istore {k : Nat} {x : Int32} : jx_ev d y (.istore k :: c) ls (.int x :: st) h = jx_ev d y c (jx_s1 ls k (.int x)) st h := ev_next rfl
theorem xe_lstore {k : Nat} {x : Int64} : jx_ev d y (.lstore k :: c) ls (.long x :: st) h = jx_ev d y c (jx_s2 ls k x) st h := ev_next rfl
theorem xe_astore {k : Nat} {v : Value} : jx_ev d y (.astore k :: c) ls (v :: st) h = jx_rv v (jx_ev d y c (jx_s1 ls k v) st h) := by
  cases v <;> simp only [jx_rv] <;> first | exact ev_next rfl | exact ev_stuck (by simp [jx_st, jx_sa, jx_sb, jx_sc])
theorem xe_iinc {k : Nat} {n : Int} : jx_ev d y (.iinc k n :: c) ls st h = jx_iv (jx_gl ls k) fun x => jx_ev d y c (jx_s1 ls k (.int (x + Int32.ofInt n))) st h := by
  cases e : jx_gl ls k <;> simp only [jx_iv] <;> first | exact ev_next (by simp [jx_st, jx_sa, e, jx_nx]) | exact ev_stuck (by simp [jx_st, jx_sa, jx_sb, jx_sc, e])
variable {a b : Int32} {p q : Int64} {v u : Value} {L : Int} {k : Nat}
theorem xe_iadd : jx_ev d y (.iadd :: c) ls (.int b :: .int a :: st) h = jx_ev d y c ls (.int (a + b) :: st) h := ev_next rfl
theorem xe_isub : jx_ev d y (.isub :: c) ls (.int b :: .int a :: st) h = jx_ev d y c ls (.int (a - b) :: st) h := ev_next rfl
theorem xe_imul : jx_ev d y (.imul :: c) ls (.int b :: .int a :: st) h = jx_ev d y c ls (.int (a * b) :: st) h := ev_next rfl
theorem xe_iand : jx_ev d y (.iand :: c) ls (.int b :: .int a :: st) h = jx_ev d y c ls (.int (a &&& b) :: st) h := ev_next rfl
theorem xe_ior : jx_ev d y (.ior :: c) ls (.int b :: .int a :: st) h = jx_ev d y c ls (.int (a ||| b) :: st) h := ev_next rfl
theorem xe_ixor : jx_ev d y (.ixor :: c) ls (.int b :: .int a :: st) h = jx_ev d y c ls (.int (a ^^^ b) :: st) h := ev_next rfl
theorem xe_ishl : jx_ev d y (.ishl :: c) ls (.int b :: .int a :: st) h = jx_ev d y c ls (.int (a <<< (b &&& 31)) :: st) h := ev_next rfl
theorem xe_ishr : jx_ev d y (.ishr :: c) ls (.int b :: .int a :: st) h = jx_ev d y c ls (.int (a >>> (b &&& 31)) :: st) h := ev_next rfl
theorem xe_iushr : jx_ev d y (.iushr :: c) ls (.int b :: .int a :: st) h = jx_ev d y c ls (.int (a.toUInt32 >>> (b.toUInt32 &&& Int32.toUInt32 31)).toInt32 :: st) h := ev_next rfl
theorem xe_ladd : jx_ev d y (.ladd :: c) ls (.long q :: .long p :: st) h = jx_ev d y c ls (.long (p + q) :: st) h := ev_next rfl
theorem xe_lsub : jx_ev d y (.lsub :: c) ls (.long q :: .long p :: st) h = jx_ev d y c ls (.long (p - q) :: st) h := ev_next rfl
theorem xe_lmul : jx_ev d y (.lmul :: c) ls (.long q :: .long p :: st) h = jx_ev d y c ls (.long (p * q) :: st) h := ev_next rfl
theorem xe_land : jx_ev d y (.land :: c) ls (.long q :: .long p :: st) h = jx_ev d y c ls (.long (p &&& q) :: st) h := ev_next rfl
theorem xe_lor : jx_ev d y (.lor :: c) ls (.long q :: .long p :: st) h = jx_ev d y c ls (.long (p ||| q) :: st) h := ev_next rfl
theorem xe_idiv : jx_ev d y (.idiv :: c) ls (.int b :: .int a :: st) h = if b = 0 then none else jx_ev d y c ls (.int (a / b) :: st) h := by
  split
  · rename_i e; exact ev_stuck (by simp [jx_st, jx_sa, jx_sb, jx_sc, e])
  · rename_i e; exact ev_next (by simp [jx_st, jx_sa, e, jx_nx])
theorem xe_irem : jx_ev d y (.irem :: c) ls (.int b :: .int a :: st) h = if b = 0 then none else jx_ev d y c ls (.int (a - a / b * b) :: st) h := by
  split
  · rename_i e; exact ev_stuck (by simp [jx_st, jx_sa, jx_sb, jx_sc, e])
  · rename_i e; exact ev_next (by simp [jx_st, jx_sa, e, jx_nx])
theorem xe_ldiv : jx_ev d y (.ldiv :: c) ls (.long q :: .long p :: st) h = if q = 0 then none else jx_ev d y c ls (.long (p / q) :: st) h := by
  split
  · rename_i e; exact ev_stuck (by simp [jx_st, jx_sa, jx_sb, jx_sc, e])
  · rename_i e; exact ev_next (by simp [jx_st, jx_sa, e, jx_nx])
theorem xe_lrem : jx_ev d y (.lrem :: c) ls (.long q :: .long p :: st) h = if q = 0 then none else jx_ev d y c ls (.long (p - p / q * q) :: st) h := by
  split
  · rename_i e; exact ev_stuck (by simp [jx_st, jx_sa, jx_sb, jx_sc, e])
  · rename_i e; exact ev_next (by simp [jx_st, jx_sa, e, jx_nx])
theorem xe_lcmp : jx_ev d y (.lcmp :: c) ls (.long q :: .long p :: st) h = jx_ev d y c ls (.int (lg_cmp p q) :: st) h := ev_next rfl
theorem xe_i2l : jx_ev d y (.i2l :: c) ls (.int a :: st) h = jx_ev d y c ls (.long a.toInt64 :: st) h := ev_next rfl
theorem xe_l2i : jx_ev d y (.l2i :: c) ls (.long p :: st) h = jx_ev d y c ls (.int p.toInt32 :: st) h := ev_next rfl
theorem xe_i2b : jx_ev d y (.i2b :: c) ls (.int a :: st) h = jx_ev d y c ls (.int a.toInt8.toInt32 :: st) h := ev_next rfl
theorem xe_i2c : jx_ev d y (.i2c :: c) ls (.int a :: st) h = jx_ev d y c ls (.int (a.toUInt32 % 65536).toInt32 :: st) h := ev_next rfl
theorem xe_pop : jx_ev d y (.pop :: c) ls (v :: st) h = if jx_is2 v = true then none else jx_ev d y c ls st h := by
  split
  · rename_i e; exact ev_stuck (by simp [jx_st, jx_sa, jx_sb, jx_sc, e])
  · rename_i e; exact ev_next (by simp [jx_st, jx_sa, e, jx_nx])
theorem xe_dup : jx_ev d y (.dup :: c) ls (v :: st) h = if jx_is2 v = true then none else jx_ev d y c ls (v :: v :: st) h := by
  split
  · rename_i e; exact ev_stuck (by simp [jx_st, jx_sa, jx_sb, jx_sc, e])
  · rename_i e; exact ev_next (by simp [jx_st, jx_sa, e, jx_nx])
theorem xe_dup_x1 : jx_ev d y (.dup_x1 :: c) ls (v :: u :: st) h = if jx_is2 v = true ∨ jx_is2 u = true then none else jx_ev d y c ls (v :: u :: v :: st) h := by
  split
  · rename_i e; exact ev_stuck (by simp [jx_st, jx_sa, jx_sb, jx_sc, e])
  · rename_i e; exact ev_next (by simp only [jx_st, jx_sa, jx_nx]; rw [if_neg e])
theorem xe_dup2 : jx_ev d y (.dup2 :: c) ls (v :: u :: st) h = if jx_is2 v = true ∨ jx_is2 u = true then none else jx_ev d y c ls (v :: u :: v :: u :: st) h := by
  split
  · rename_i e; exact ev_stuck (by simp [jx_st, jx_sa, jx_sb, jx_sc, e])
  · rename_i e; exact ev_next (by simp only [jx_st, jx_sa, jx_nx]; rw [if_neg e])
theorem xe_goto : jx_ev d y (.goto L :: c) ls st h = jx_eb d y L.toNat ls st h := ev_jump rfl
theorem xe_goto_w : jx_ev d y (.goto_w L :: c) ls st h = jx_eb d y L.toNat ls st h := ev_jump rfl
theorem xe_ifeq : jx_ev d y (.ifCond .eq L :: c) ls (.int a :: st) h = if a = 0 then jx_eb d y L.toNat ls st h else jx_ev d y c ls st h := by
  split
  · rename_i e; exact ev_jump (by simp [jx_st, jx_sa, jx_sb, jx_c1, e, jx_jp])
  · rename_i e; exact ev_next (by simp [jx_st, jx_sa, jx_sb, jx_c1, e, jx_nx])
theorem xe_ifne : jx_ev d y (.ifCond .ne L :: c) ls (.int a :: st) h = if a = 0 then jx_ev d y c ls st h else jx_eb d y L.toNat ls st h := by
  split
  · rename_i e; exact ev_next (by simp [jx_st, jx_sa, jx_sb, jx_c1, e, jx_nx])
  · rename_i e; exact ev_jump (by simp [jx_st, jx_sa, jx_sb, jx_c1, e, jx_jp])
theorem xe_iflt : jx_ev d y (.ifCond .lt L :: c) ls (.int a :: st) h = if a < 0 then jx_eb d y L.toNat ls st h else jx_ev d y c ls st h := by
  split
  · rename_i e; exact ev_jump (by simp [jx_st, jx_sa, jx_sb, jx_c1, e, jx_jp])
  · rename_i e; exact ev_next (by simp only [jx_st, jx_sa, jx_sb, jx_c1, jx_nx, decide_eq_true_eq]; rw [if_neg e])
theorem xe_ifge : jx_ev d y (.ifCond .ge L :: c) ls (.int a :: st) h = if 0 ≤ a then jx_eb d y L.toNat ls st h else jx_ev d y c ls st h := by
  split
  · rename_i e; exact ev_jump (by simp only [jx_st, jx_sa, jx_sb, jx_c1, jx_jp, decide_eq_true_eq]; rw [if_pos e])
  · rename_i e; exact ev_next (by simp only [jx_st, jx_sa, jx_sb, jx_c1, jx_nx, decide_eq_true_eq]; rw [if_neg e])
theorem xe_ifgt : jx_ev d y (.ifCond .gt L :: c) ls (.int a :: st) h = if 0 < a then jx_eb d y L.toNat ls st h else jx_ev d y c ls st h := by
  split
  · rename_i e; exact ev_jump (by simp only [jx_st, jx_sa, jx_sb, jx_c1, jx_jp, decide_eq_true_eq]; rw [if_pos e])
  · rename_i e; exact ev_next (by simp only [jx_st, jx_sa, jx_sb, jx_c1, jx_nx, decide_eq_true_eq]; rw [if_neg e])
theorem xe_ifle : jx_ev d y (.ifCond .le L :: c) ls (.int a :: st) h = if a ≤ 0 then jx_eb d y L.toNat ls st h else jx_ev d y c ls st h := by
  split
  · rename_i e; exact ev_jump (by simp only [jx_st, jx_sa, jx_sb, jx_c1, jx_jp, decide_eq_true_eq]; rw [if_pos e])
  · rename_i e; exact ev_next (by simp only [jx_st, jx_sa, jx_sb, jx_c1, jx_nx, decide_eq_true_eq]; rw [if_neg e])
theorem xe_icmp_eq : jx_ev d y (.if_icmp .eq L :: c) ls (.int b :: .int a :: st) h = if a = b then jx_eb d y L.toNat ls st h else jx_ev d y c ls st h := by
  split
  · rename_i e; exact ev_jump (by simp only [jx_st, jx_sa, jx_sb, jx_c2, jx_jp, decide_eq_true_eq]; rw [if_pos e])
  · rename_i e; exact ev_next (by simp only [jx_st, jx_sa, jx_sb, jx_c2, jx_nx, decide_eq_true_eq]; rw [if_neg e])
theorem xe_icmp_ne : jx_ev d y (.if_icmp .ne L :: c) ls (.int b :: .int a :: st) h = if a = b then jx_ev d y c ls st h else jx_eb d y L.toNat ls st h := by
  split
  · rename_i e; exact ev_next (by simp only [jx_st, jx_sa, jx_sb, jx_c2, jx_nx, decide_eq_true_eq]; rw [if_neg (fun z => z e)])
  · rename_i e; exact ev_jump (by simp only [jx_st, jx_sa, jx_sb, jx_c2, jx_jp, decide_eq_true_eq]; rw [if_pos e])
theorem xe_icmp_lt : jx_ev d y (.if_icmp .lt L :: c) ls (.int b :: .int a :: st) h = if a < b then jx_eb d y L.toNat ls st h else jx_ev d y c ls st h := by
  split
  · rename_i e; exact ev_jump (by simp only [jx_st, jx_sa, jx_sb, jx_c2, jx_jp, decide_eq_true_eq]; rw [if_pos e])
  · rename_i e; exact ev_next (by simp only [jx_st, jx_sa, jx_sb, jx_c2, jx_nx, decide_eq_true_eq]; rw [if_neg e])
theorem xe_icmp_ge : jx_ev d y (.if_icmp .ge L :: c) ls (.int b :: .int a :: st) h = if b ≤ a then jx_eb d y L.toNat ls st h else jx_ev d y c ls st h := by
  split
  · rename_i e; exact ev_jump (by simp only [jx_st, jx_sa, jx_sb, jx_c2, jx_jp, decide_eq_true_eq]; rw [if_pos e])
  · rename_i e; exact ev_next (by simp only [jx_st, jx_sa, jx_sb, jx_c2, jx_nx, decide_eq_true_eq]; rw [if_neg e])
theorem xe_icmp_gt : jx_ev d y (.if_icmp .gt L :: c) ls (.int b :: .int a :: st) h = if b < a then jx_eb d y L.toNat ls st h else jx_ev d y c ls st h := by
  split
  · rename_i e; exact ev_jump (by simp only [jx_st, jx_sa, jx_sb, jx_c2, jx_jp, decide_eq_true_eq]; rw [if_pos e])
  · rename_i e; exact ev_next (by simp only [jx_st, jx_sa, jx_sb, jx_c2, jx_nx, decide_eq_true_eq]; rw [if_neg e])
theorem xe_icmp_le : jx_ev d y (.if_icmp .le L :: c) ls (.int b :: .int a :: st) h = if a ≤ b then jx_eb d y L.toNat ls st h else jx_ev d y c ls st h := by
  split
  · rename_i e; exact ev_jump (by simp only [jx_st, jx_sa, jx_sb, jx_c2, jx_jp, decide_eq_true_eq]; rw [if_pos e])
  · rename_i e; exact ev_next (by simp only [jx_st, jx_sa, jx_sb, jx_c2, jx_nx, decide_eq_true_eq]; rw [if_neg e])
theorem xe_ifnull_n : jx_ev d y (.ifnull L :: c) ls (.null :: st) h = jx_eb d y L.toNat ls st h := ev_jump rfl
theorem xe_ifnull_r : jx_ev d y (.ifnull L :: c) ls (.ref k :: st) h = if 3 ≤ k then jx_ev d y c ls st h else none := by
  split
  · rename_i e; exact ev_next (by simp only [jx_st, jx_sa, jx_sb, jx_nx]; rw [if_pos e])
  · rename_i e; exact ev_stuck (by simp only [jx_st, jx_sa, jx_sb, jx_nx]; rw [if_neg e]; rfl)
theorem xe_ifnonnull_n : jx_ev d y (.ifnonnull L :: c) ls (.null :: st) h = jx_ev d y c ls st h := ev_next rfl
theorem xe_ifnonnull_r : jx_ev d y (.ifnonnull L :: c) ls (.ref k :: st) h = if 3 ≤ k then jx_eb d y L.toNat ls st h else none := by
  split
  · rename_i e; exact ev_jump (by simp only [jx_st, jx_sa, jx_sb, jx_jp]; rw [if_pos e])
  · rename_i e; exact ev_stuck (by simp only [jx_st, jx_sa, jx_sb, jx_jp]; rw [if_neg e]; rfl)
theorem xe_table {dflt lo hi : Int} {offs : Array Int} : jx_ev d y (.tableswitch dflt lo hi offs :: c) ls (.int a :: st) h = if a.toInt < lo ∨ hi < a.toInt then jx_eb d y dflt.toNat ls st h else jx_ov (offs[(a.toInt - lo).toNat]?) fun L => jx_eb d y L.toNat ls st h := by
  split
  · rename_i e; exact ev_jump (by simp only [jx_st, jx_sa, jx_sb, jx_jp]; rw [if_pos e])
  · rename_i e
    cases e2 : offs[(a.toInt - lo).toNat]? with
    | none => exact ev_stuck (by simp only [jx_st, jx_sa, jx_sb, jx_jp, e2]; rw [if_neg e]; rfl)
    | some L => exact ev_jump (by simp only [jx_st, jx_sa, jx_sb, jx_jp, e2]; rw [if_neg e])
theorem xe_lookup {dflt : Int} {ps : Array (Int × Int)} : jx_ev d y (.lookupswitch dflt ps :: c) ls (.int a :: st) h = jx_eb d y (Op.lookupswitch.offset ps.toList dflt a.toInt).toNat ls st h := ev_jump rfl
theorem xe_ireturn : jx_ev d y (.ireturn :: c) ls [.int a] h = some (.inl (some (.int a)), h) := ev_end rfl
theorem xe_zreturn : jx_ev d y (.freturn :: c) ls [.int a] h = if a &&& 1 = a then some (.inl (some (.int a)), h) else none := by
  split
  · rename_i e; exact ev_end (by simp only [jx_st, jx_sa, jx_sb, jx_rt]; rw [if_pos e])
  · rename_i e; exact ev_stuck (by simp only [jx_st, jx_sa, jx_sb, jx_rt]; rw [if_neg e]; rfl)
theorem xe_breturn : jx_ev d y (.dreturn :: c) ls [.int a] h = if 0 ≤ a.toInt ∧ a.toInt < 128 then some (.inl (some (.int a)), h) else none := by
  split
  · rename_i e; exact ev_end (by simp only [jx_st, jx_sa, jx_sb, jx_rt]; rw [if_pos e])
  · rename_i e; exact ev_stuck (by simp only [jx_st, jx_sa, jx_sb, jx_rt]; rw [if_neg e]; rfl)
theorem xe_lreturn : jx_ev d y (.lreturn :: c) ls [.long p] h = some (.inl (some (.long p)), h) := ev_end rfl
theorem xe_areturn_n : jx_ev d y (.areturn :: c) ls [.null] h = some (.inl (some .null), h) := ev_end rfl
theorem xe_areturn_r : jx_ev d y (.areturn :: c) ls [.ref k] h = if 3 ≤ k then some (.inl (some (.ref k)), h) else none := by
  split
  · rename_i e; exact ev_end (by simp only [jx_st, jx_sa, jx_sb, jx_rt]; rw [if_pos e])
  · rename_i e; exact ev_stuck (by simp only [jx_st, jx_sa, jx_sb, jx_rt]; rw [if_neg e]; rfl)
theorem xe_return : jx_ev d y (.return_ :: c) ls [] h = some (.inl none, h) := ev_end rfl
theorem xe_athrow {fs : List Value} (e : h.1 k = .inr (2, fs)) : jx_ev d y (.athrow :: c) ls (.ref k :: st) h = some (.inr (), h) := ev_end (by simp only [jx_st, jx_sa, jx_sb, e, jx_th])
theorem xe_getf {ci k a : Nat} : jx_ev d y (.invokeinterface ci k :: c) ls (.ref a :: st) h = jx_gf (h.1 a) ci k fun v => jx_ev d y c ls (v :: st) h := by
  unfold jx_gf
  split
  · rename_i c0 fs e
    split
    · rename_i e2
      cases e3 : fs[k]? with
      | none => exact ev_stuck (by simp only [jx_st, jx_sa, jx_sb, jx_sc, e, e3]; rw [if_pos e2])
      | some v => exact ev_next (by simp only [jx_st, jx_sa, jx_sb, jx_sc, e, e3, jx_nx]; rw [if_pos e2])
    · rename_i e2; exact ev_stuck (by simp only [jx_st, jx_sa, jx_sb, jx_sc, e]; rw [if_neg e2])
  · rename_i e
    refine ev_stuck ?_
    simp only [jx_st, jx_sa, jx_sb, jx_sc]
theorem xe_putf {ci kk a : Nat} : jx_ev d y (.multianewarray ci kk :: c) ls (v :: .ref a :: st) h = jx_pf (h.1 a) ci kk v fun x => jx_ev d y c ls st (jx_put h a x) := by
  have key : jx_st jx_dt (.multianewarray ci kk) ls (v :: .ref a :: st) h = jx_sc jx_dt (.multianewarray ci kk) ls (v :: .ref a :: st) h := rfl
  unfold jx_pf
  split
  · rename_i c0 fs e
    split
    · rename_i e2
      split
      · rename_i e3; exact ev_next (by rw [key]; simp only [jx_sc, e]; rw [if_pos e2, e3]; rfl)
      · rename_i e3; exact ev_next (by rw [key]; simp only [jx_sc, e]; rw [if_pos e2, e3]; rfl)
      · rename_i e3; exact ev_next (by rw [key]; simp only [jx_sc, e]; rw [if_pos e2, e3]; rfl)
      · rename_i e3; exact ev_next (by rw [key]; simp only [jx_sc, e]; rw [if_pos e2, e3]; rfl)
      · rename_i x e3
        split
        · rename_i e4; exact ev_next (by rw [key]; simp only [jx_sc, e]; rw [if_pos e2, e3]; simp only; rw [if_pos e4]; rfl)
        · rename_i e4; exact ev_stuck (by rw [key]; simp only [jx_sc, e]; rw [if_pos e2, e3]; simp only; rw [if_neg e4])
      · rename_i e3 e4 e5 e6 e7
        refine ev_stuck ?_
        rw [key]
        simp only [jx_sc, e]
        rw [if_pos e2]
    · rename_i e2; exact ev_stuck (by rw [key]; simp only [jx_sc, e]; rw [if_neg e2])
  · rename_i e
    refine ev_stuck ?_
    rw [key]
    simp only [jx_sc]
theorem xe_iald {j : Int32} {r : Nat} : jx_ev d y (.iaload :: c) ls (.int j :: .ref r :: st) h = jx_ia (h.1 r) j fun x => jx_ev d y c ls (.int x :: st) h := by
  have key : jx_st jx_dt .iaload ls (.int j :: .ref r :: st) h = jx_sc jx_dt .iaload ls (.int j :: .ref r :: st) h := rfl
  unfold jx_ia
  split
  · rename_i t n g e
    split
    · rename_i e2
      cases e3 : jx_ix j n with
      | none => exact ev_stuck (by rw [key]; simp only [jx_sc, e]; rw [if_pos e2, e3])
      | some v => exact ev_next (by rw [key]; simp only [jx_sc, e]; rw [if_pos e2, e3]; rfl)
    · rename_i e2; exact ev_stuck (by rw [key]; simp only [jx_sc, e]; rw [if_neg e2])
  · rename_i e
    refine ev_stuck ?_
    rw [key]
    simp only [jx_sc]
theorem xe_bald {j : Int32} {r : Nat} : jx_ev d y (.baload :: c) ls (.int j :: .ref r :: st) h = jx_ba (h.1 r) j fun x => jx_ev d y c ls (.int x :: st) h := by
  have key : jx_st jx_dt .baload ls (.int j :: .ref r :: st) h = jx_sc jx_dt .baload ls (.int j :: .ref r :: st) h := rfl
  unfold jx_ba
  split
  · rename_i t n g e
    split
    · rename_i e2
      cases e3 : jx_ix j n with
      | none => exact ev_stuck (by rw [key]; simp only [jx_sc, e]; rw [if_pos e2, e3])
      | some v => exact ev_next (by rw [key]; simp only [jx_sc, e]; rw [if_pos e2, e3]; rfl)
    · rename_i e2; exact ev_stuck (by rw [key]; simp only [jx_sc, e]; rw [if_neg e2])
  · rename_i e
    refine ev_stuck ?_
    rw [key]
    simp only [jx_sc]
theorem xe_lald {j : Int32} {r : Nat} : jx_ev d y (.laload :: c) ls (.int j :: .ref r :: st) h = jx_ja (h.1 r) j fun x => jx_ev d y c ls (.long x :: st) h := by
  have key : jx_st jx_dt .laload ls (.int j :: .ref r :: st) h = jx_sc jx_dt .laload ls (.int j :: .ref r :: st) h := rfl
  unfold jx_ja
  split
  · rename_i n g e
    cases e3 : jx_ix j n with
    | none => exact ev_stuck (by rw [key]; simp only [jx_sc, e]; rw [e3])
    | some v => exact ev_next (by rw [key]; simp only [jx_sc, e]; rw [e3]; rfl)
  · rename_i e
    refine ev_stuck ?_
    rw [key]
    simp only [jx_sc]
theorem xe_qald {j : Int32} {r : Nat} : jx_ev d y (.aaload :: c) ls (.int j :: .ref r :: st) h = jx_qa (h.1 r) j fun x => jx_ev d y c ls (va_rf x :: st) h := by
  have key : jx_st jx_dt .aaload ls (.int j :: .ref r :: st) h = jx_sc jx_dt .aaload ls (.int j :: .ref r :: st) h := rfl
  unfold jx_qa
  split
  · rename_i t n g e
    split
    · rename_i e2
      cases e3 : jx_ix j n with
      | none => exact ev_stuck (by rw [key]; simp only [jx_sc, e]; rw [if_pos e2, e3])
      | some v => exact ev_next (by rw [key]; simp only [jx_sc, e]; rw [if_pos e2, e3]; rfl)
    · rename_i e2; exact ev_stuck (by rw [key]; simp only [jx_sc, e]; rw [if_neg e2])
  · rename_i e
    refine ev_stuck ?_
    rw [key]
    simp only [jx_sc]
theorem xe_iast {j x : Int32} {r : Nat} : jx_ev d y (.iastore :: c) ls (.int x :: .int j :: .ref r :: st) h = jx_is (h.1 r) j x fun z => jx_ev d y c ls st (jx_put h r z) := by
  have key : jx_st jx_dt .iastore ls (.int x :: .int j :: .ref r :: st) h = jx_sc jx_dt .iastore ls (.int x :: .int j :: .ref r :: st) h := rfl
  unfold jx_is
  split
  · rename_i n g e
    cases e3 : jx_ix j n with
    | none => exact ev_stuck (by rw [key]; simp only [jx_sc, e]; rw [e3])
    | some v => exact ev_next (by rw [key]; simp only [jx_sc, e]; rw [e3]; rfl)
  · rename_i e
    refine ev_stuck ?_
    rw [key]
    simp only [jx_sc]
theorem xe_bast {j x : Int32} {r : Nat} : jx_ev d y (.bastore :: c) ls (.int x :: .int j :: .ref r :: st) h = jx_bs (h.1 r) j x fun z => jx_ev d y c ls st (jx_put h r z) := by
  have key : jx_st jx_dt .bastore ls (.int x :: .int j :: .ref r :: st) h = jx_sc jx_dt .bastore ls (.int x :: .int j :: .ref r :: st) h := rfl
  unfold jx_bs
  split
  · rename_i n g e
    cases e3 : jx_ix j n with
    | none => exact ev_stuck (by rw [key]; simp only [jx_sc, e]; rw [e3])
    | some v => exact ev_next (by rw [key]; simp only [jx_sc, e]; rw [e3]; rfl)
  · rename_i n g e
    cases e3 : jx_ix j n with
    | none => exact ev_stuck (by rw [key]; simp only [jx_sc, e]; rw [e3])
    | some v => exact ev_next (by rw [key]; simp only [jx_sc, e]; rw [e3]; rfl)
  · rename_i e
    refine ev_stuck ?_
    rw [key]
    simp only [jx_sc]
theorem xe_last {j : Int32} {x : Int64} {r : Nat} : jx_ev d y (.lastore :: c) ls (.long x :: .int j :: .ref r :: st) h = jx_js (h.1 r) j x fun z => jx_ev d y c ls st (jx_put h r z) := by
  have key : jx_st jx_dt .lastore ls (.long x :: .int j :: .ref r :: st) h = jx_sc jx_dt .lastore ls (.long x :: .int j :: .ref r :: st) h := rfl
  unfold jx_js
  split
  · rename_i n g e
    cases e3 : jx_ix j n with
    | none => exact ev_stuck (by rw [key]; simp only [jx_sc, e]; rw [e3])
    | some v => exact ev_next (by rw [key]; simp only [jx_sc, e]; rw [e3]; rfl)
  · rename_i e
    refine ev_stuck ?_
    rw [key]
    simp only [jx_sc]
theorem xe_qast {j : Int32} {x r : Nat} : jx_ev d y (.aastore :: c) ls (.ref x :: .int j :: .ref r :: st) h = jx_qs (h.1 r) (h.1 x) j x fun z => jx_ev d y c ls st (jx_put h r z) := by
  have key : jx_st jx_dt .aastore ls (.ref x :: .int j :: .ref r :: st) h = jx_sc jx_dt .aastore ls (.ref x :: .int j :: .ref r :: st) h := rfl
  unfold jx_qs
  split
  · rename_i t n g ci fs e e0
    split
    · rename_i e2
      cases e3 : jx_ix j n with
      | none => exact ev_stuck (by rw [key]; simp only [jx_sc, e, e0]; rw [if_pos e2, e3])
      | some v => exact ev_next (by rw [key]; simp only [jx_sc, e, e0]; rw [if_pos e2, e3]; rfl)
    · rename_i e2; exact ev_stuck (by rw [key]; simp only [jx_sc, e, e0]; rw [if_neg e2])
  · rename_i e
    refine ev_stuck ?_
    rw [key]
    simp only [jx_sc]
theorem xe_alen {r : Nat} : jx_ev d y (.arraylength :: c) ls (.ref r :: st) h = jx_al (h.1 r) fun x => jx_ev d y c ls (.int x :: st) h := by
  have key : jx_st jx_dt .arraylength ls (.ref r :: st) h = jx_sc jx_dt .arraylength ls (.ref r :: st) h := rfl
  unfold jx_al
  split
  · rename_i t n g e
    split
    · rename_i e2; exact ev_next (by rw [key]; simp only [jx_sc, e]; rw [if_pos e2]; rfl)
    · rename_i e2; exact ev_stuck (by rw [key]; simp only [jx_sc, e]; rw [if_neg e2])
  · rename_i e
    refine ev_stuck ?_
    rw [key]
    simp only [jx_sc]
theorem xe_newi (e : 0 ≤ a.toInt ∧ a.toInt ≤ 65536) : jx_ev d y (.newarray .int :: c) ls (.int a :: st) h = jx_ev d y c ls (.ref h.2.1 :: st) (jx_new h (jx_I 0 a.toNatClampNeg (fun _ => 0)) a.toNatClampNeg) := ev_next (by
  show jx_ar 0 ls (.int a :: st) h = _
  simp only [jx_ar]; rw [if_pos e]; rfl)
theorem xe_newb (e : 0 ≤ a.toInt ∧ a.toInt ≤ 65536) : jx_ev d y (.newarray .byte :: c) ls (.int a :: st) h = jx_ev d y c ls (.ref h.2.1 :: st) (jx_new h (jx_I 1 a.toNatClampNeg (fun _ => 0)) a.toNatClampNeg) := ev_next (by
  show jx_ar 1 ls (.int a :: st) h = _
  simp only [jx_ar]; rw [if_pos e]; rfl)
theorem xe_newl (e : 0 ≤ a.toInt ∧ a.toInt ≤ 65536) : jx_ev d y (.newarray .long :: c) ls (.int a :: st) h = jx_ev d y c ls (.ref h.2.1 :: st) (jx_new h (jx_L 2 a.toNatClampNeg (fun _ => 0)) a.toNatClampNeg) := ev_next (by
  show jx_ar 2 ls (.int a :: st) h = _
  simp only [jx_ar]; rw [if_pos e]; rfl)
theorem xe_newz (e : 0 ≤ a.toInt ∧ a.toInt ≤ 65536) : jx_ev d y (.newarray .boolean :: c) ls (.int a :: st) h = jx_ev d y c ls (.ref h.2.1 :: st) (jx_new h (jx_I 3 a.toNatClampNeg (fun _ => 0)) a.toNatClampNeg) := ev_next (by
  show jx_ar 3 ls (.int a :: st) h = _
  simp only [jx_ar]; rw [if_pos e]; rfl)
theorem xe_newq {t : Nat} (ht : 4 ≤ t ∧ t < 8) (e : 0 ≤ a.toInt ∧ a.toInt ≤ 65536) : jx_ev d y (.anewarray t :: c) ls (.int a :: st) h = jx_ev d y c ls (.ref h.2.1 :: st) (jx_new h (jx_Q t a.toNatClampNeg (fun _ => none)) a.toNatClampNeg) := ev_next (by
  show (if 4 ≤ t ∧ t < 8 then jx_ar t ls (.int a :: st) h else none) = _
  rw [if_pos ht]
  simp only [jx_ar]
  rw [if_pos e, if_neg (show ¬ t = 2 by omega), if_neg (show ¬ t < 4 by omega)]; rfl)
theorem xe_new {ci : Nat} : jx_ev d y (.new ci :: c) ls st h = jx_ev d y c ls (.ref h.2.1 :: st) (jx_new h (.inr (ci, jx_nf ci)) (jx_nf ci).length) := ev_next rfl
theorem xe_obj : jx_ev d y (.monitorenter :: c) ls (.ref k :: st) h = if 3 ≤ k ∧ st.length ≤ 4 then jx_ev d y c ls st h else none := by
  have key : jx_st jx_dt .monitorenter ls (.ref k :: st) h = jx_sc jx_dt .monitorenter ls (.ref k :: st) h := rfl
  split
  · rename_i e; exact ev_next (by rw [key]; simp only [jx_sc]; rw [if_pos e]; rfl)
  · rename_i e; exact ev_stuck (by rw [key]; simp only [jx_sc]; rw [if_neg e])
theorem xe_max : jx_ev d y (.swap :: c) ls (.int b :: .int a :: st) h = if st.length ≤ 4 then jx_ev d y c ls (.int (if a < b then b else a) :: st) h else none := by
  have key : jx_st jx_dt .swap ls (.int b :: .int a :: st) h = jx_sc jx_dt .swap ls (.int b :: .int a :: st) h := rfl
  by_cases e : st.length ≤ 4
  · rw [if_pos e]; exact ev_next (by rw [key]; simp only [jx_sc]; rw [if_pos e]; rfl)
  · rw [if_neg e]; exact ev_stuck (by rw [key]; simp only [jx_sc]; rw [if_neg e])
theorem xe_min : jx_ev d y (.nop :: c) ls (.int b :: .int a :: st) h = if st.length ≤ 4 then jx_ev d y c ls (.int (if b < a then b else a) :: st) h else none := by
  have key : jx_st jx_dt .nop ls (.int b :: .int a :: st) h = jx_sc jx_dt .nop ls (.int b :: .int a :: st) h := rfl
  by_cases e : st.length ≤ 4
  · rw [if_pos e]; exact ev_next (by rw [key]; simp only [jx_sc]; rw [if_pos e]; rfl)
  · rw [if_neg e]; exact ev_stuck (by rw [key]; simp only [jx_sc]; rw [if_neg e])
theorem xe_copy {n sp dp : Int32} {r0 r1 : Nat} : jx_ev d y (.monitorexit :: c) ls (.int n :: .int dp :: .ref r1 :: .int sp :: .ref r0 :: st) h = if st.length ≤ 4 then jx_cp (h.1 r0) (h.1 r1) sp dp n fun z => jx_ev d y c ls st (jx_put h r1 z) else none := by
  have key : jx_st jx_dt .monitorexit ls (.int n :: .int dp :: .ref r1 :: .int sp :: .ref r0 :: st) h = jx_sc jx_dt .monitorexit ls (.int n :: .int dp :: .ref r1 :: .int sp :: .ref r0 :: st) h := rfl
  unfold jx_cp
  by_cases e4 : st.length ≤ 4
  · rw [if_pos e4]
    split
    · rename_i n0 g n1 g1 e e0
      split
      · rename_i e2; exact ev_next (by rw [key]; simp only [jx_sc, e, e0]; rw [if_pos e2, if_pos e4]; rfl)
      · rename_i e2; exact ev_stuck (by rw [key]; simp only [jx_sc, e, e0]; rw [if_neg e2])
    · rename_i e
      refine ev_stuck ?_
      rw [key]
      simp only [jx_sc]
  · rw [if_neg e4]
    refine ev_stuck ?_
    rw [key]
    simp only [jx_sc]
    split
    · split
      · rfl
      · rfl
    · rfl
/-- calls -/
theorem xe_inv {z b : Nat} {as : List Value} (hp : jx_pop (z % 10) st [] = some (as, .ref b :: ls')) (h4 : ls'.length ≤ 4) : jx_ev d y (.invokevirtual z :: c) ls st h = jx_cl9 (h.1 b) (z / 10000 % 100) (jx_cc d y c ls ls' (z / 1000000) (jx_cr d (z / 10 % 1000) (.ref b :: as) h)) := by
  have key : jx_st jx_dt (.invokevirtual z) ls st h = jx_sc jx_dt (.invokevirtual z) ls st h := rfl
  unfold jx_cl9
  split
  · rename_i ci fs e
    split
    · rename_i e2; exact ev_call (by rw [key]; simp only [jx_sc, hp, e]; rw [if_pos e2]; simp only [jx_cl]; rw [if_pos h4])
    · rename_i e2; exact ev_stuck (by rw [key]; simp only [jx_sc, hp, e]; rw [if_neg e2])
  · rename_i e
    refine ev_stuck ?_
    rw [key]
    simp only [jx_sc, hp]
theorem xe_dsp {z b : Nat} {as : List Value} (hp : jx_pop (z % 10) st [] = some (as, .ref b :: ls')) (h4 : ls'.length ≤ 4) : jx_ev d y (.fload z :: c) ls st h = jx_cl8 (h.1 b) fun ci => jx_cc d y c ls ls' 1 (jx_cr d (jx_dt (z / 10) ci) (.ref b :: as) h) := by
  have key : jx_st jx_dt (.fload z) ls st h = jx_sc jx_dt (.fload z) ls st h := rfl
  unfold jx_cl8
  split
  · rename_i ci fs e
    exact ev_call (by rw [key]; simp only [jx_sc, hp, e, jx_cl, jx_dp]; rw [if_pos h4])
  · rename_i e
    refine ev_stuck ?_
    rw [key]
    simp only [jx_sc, hp]
theorem xe_spc {z b : Nat} {as : List Value} (hp : jx_pop (z % 10) st [] = some (as, .ref b :: ls')) (h4 : ls'.length ≤ 4) : jx_ev d y (.invokespecial z :: c) ls st h = if 3 ≤ b then jx_cc d y c ls ls' 1 (jx_cr d (z / 10 % 1000) (.ref b :: as) h) else none := by
  have key : jx_st jx_dt (.invokespecial z) ls st h = jx_sc jx_dt (.invokespecial z) ls st h := rfl
  split
  · rename_i e2; exact ev_call (by rw [key]; simp only [jx_sc, hp]; rw [if_pos e2]; simp only [jx_cl]; rw [if_pos h4])
  · rename_i e2; exact ev_stuck (by rw [key]; simp only [jx_sc, hp]; rw [if_neg e2])
theorem xe_sta {z : Nat} {as : List Value} (hp : jx_pop (z % 10) st [] = some (as, ls')) (h4 : ls'.length ≤ 4) : jx_ev d y (.invokestatic z :: c) ls st h = jx_cc d y c ls ls' 1 (jx_cr d (z / 10 % 1000) as h) := by
  have key : jx_st jx_dt (.invokestatic z) ls st h = jx_sc jx_dt (.invokestatic z) ls st h := rfl
  exact ev_call (by rw [key]; simp only [jx_sc, hp, jx_cl]; rw [if_pos h4])
end XE
