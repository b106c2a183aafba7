/-! THE ABSTRACT MACHINE. Values: the model's, a reference being an abstract index. Cells: va_E (an array's class a tag, an object's class its number in jx_cl). Heap: cells by index, how many there are, how many slots they have. Code: instructions by labels, pool entries resolved, jumps absolute. -/
abbrev jx_H : Type := (Nat → va_E) × (Nat × Nat)
abbrev jx_R : Type := (Option Value ⊕ Unit) × jx_H
/-- next | jump | call y args rest handler | end -/
abbrev jx_A : Type := (List Value × List Value × jx_H) ⊕ ((Nat × List Value) ⊕ ((Nat × (List Value × (List Value × Nat))) ⊕ (Option Value ⊕ Unit)))
abbrev jx_I (t n : Nat) (f : Nat → Int32) : va_E := .inl (t, n, .inl f)
abbrev jx_L (t n : Nat) (f : Nat → Int64) : va_E := .inl (t, n, .inr (.inl f))
abbrev jx_Q (t n : Nat) (f : Nat → Option Nat) : va_E := .inl (t, n, .inr (.inr (.inr (.inr f))))
abbrev jx_O (ci : Nat) (fs : List Value) : va_E := .inr (ci, fs)
def jx_put (h : jx_H) (k : Nat) (x : va_E) : jx_H := (fun j => if j = k then x else h.1 j, h.2)
def jx_new (h : jx_H) (x : va_E) (n : Nat) : jx_H := (fun j => if j = h.2.1 then x else h.1 j, (h.2.1 + 1, h.2.2 + n))
def jx_un : Value := .float 0
def jx_sn : Value := .float 1
def jx_is2 : Value → Bool
  | .long _ => true
  | .double _ => true
  | _ => false
def jx_mk : Value → Bool
  | .float b => b == 1
  | _ => false
def jx_df : Value → Bool
  | .float _ => false
  | _ => true
def jx_gl (ls : List Value) (k : Nat) : Value := (ls[k]?).getD jx_un
def jx_s1 (ls : List Value) (k : Nat) (v : Value) : List Value :=
  let l1 := if jx_mk (jx_gl ls k) = true then ls.set (k - 1) jx_un else ls
  let l2 := if jx_is2 (jx_gl ls k) = true then l1.set (k + 1) jx_un else l1
  l2.set k v
def jx_s2 (ls : List Value) (k : Nat) (x : Int64) : List Value := jx_s1 (jx_s1 ls (k + 1) jx_sn) k (.long x)
def jx_ix (i : Int32) (n : Nat) : Option Nat := if 0 ≤ i.toInt ∧ i.toInt < (n : Int) then some i.toNatClampNeg else none
def jx_pop : Nat → List Value → List Value → Option (List Value × List Value)
  | 0, st, acc => some (acc, st)
  | n + 1, v :: st, acc => jx_pop n st (v :: acc)
  | _ + 1, [], _ => none
/-- fields' default values -/
def jx_nf : Nat → List Value
  | 0 => [.null, .null, .null, .null, .null, .int 0, .int 0, .null, .null, .int 0, .null, .null, .null, .null, .int 0, .null, .null, .null, .null, .null, .int 0, .null]
  | 1 => [.int 0, .int 0, .int 0, .int 0, .int 0, .int 0, .int 0, .int 0, .int 0, .int 0, .int 0, .null, .null, .null, .null, .null, .null, .null, .null, .null, .null, .null, .null]
  | 2 => [.null, .null, .null, .null, .null, .int 0, .int 0, .int 0]
  | 3 => (List.range 53).map (fun k => defaultValue (tyX3 k))
  | 4 => (List.range 7).map (fun k => defaultValue (tyX4 k))
  | 5 => (List.range 2).map (fun k => defaultValue (tyX5 k))
  | 6 => (List.range 2).map (fun k => defaultValue (tyX6 k))
  | 8 => (List.range 1).map (fun k => defaultValue (tyX8 k))
  | 9 => (List.range 1).map (fun k => defaultValue (tyX9 k))
  | 10 => (List.range 3).map (fun k => defaultValue (tyX10 k))
  | 12 => (List.range 1).map (fun k => defaultValue (tyX12 k))
  | 13 => (List.range 3).map (fun k => defaultValue (tyX13 k))
  | 14 => (List.range 3).map (fun k => defaultValue (tyX14 k))
  | 15 => (List.range 4).map (fun k => defaultValue (tyX15 k))
  | _ => []
/-- an abstract method by the receiver's class -/
def jx_dp (dt : Nat → Nat → Nat) (x ci : Nat) : Nat := dt x ci
def jx_nx (ls st : List Value) (h : jx_H) : Option jx_A := some (.inl (ls, st, h))
def jx_jp (L : Int) (st : List Value) : Option jx_A := some (.inr (.inl (L.toNat, st)))
def jx_cl (y : Nat) (args st : List Value) (hd : Nat) : Option jx_A := if st.length ≤ 4 then some (.inr (.inr (.inl (y, args, st, hd)))) else none
def jx_rt (v : Option Value) : Option jx_A := some (.inr (.inr (.inr (.inl v))))
def jx_th : Option jx_A := some (.inr (.inr (.inr (.inr ()))))
def jx_i2 (f : Int32 → Int32 → Int32) (ls st : List Value) (h : jx_H) : Option jx_A := match st with
  | .int y :: .int x :: r => jx_nx ls (.int (f x y) :: r) h
  | _ => none
def jx_l2 (f : Int64 → Int64 → Int64) (ls st : List Value) (h : jx_H) : Option jx_A := match st with
  | .long y :: .long x :: r => jx_nx ls (.long (f x y) :: r) h
  | _ => none
def jx_c1 (P : Int32 → Bool) (L : Int) (ls st : List Value) (h : jx_H) : Option jx_A := match st with
  | .int x :: r => if P x = true then jx_jp L r else jx_nx ls r h
  | _ => none
def jx_c2 (P : Int32 → Int32 → Bool) (L : Int) (ls st : List Value) (h : jx_H) : Option jx_A := match st with
  | .int y :: .int x :: r => if P x y = true then jx_jp L r else jx_nx ls r h
  | _ => none
def jx_ar (t : Nat) (ls st : List Value) (h : jx_H) : Option jx_A := match st with
  | .int x :: r => if 0 ≤ x.toInt ∧ x.toInt ≤ 65536 then jx_nx ls (.ref h.2.1 :: r) (jx_new h (if t = 2 then jx_L 2 x.toNatClampNeg (fun _ => 0) else if t < 4 then jx_I t x.toNatClampNeg (fun _ => 0) else jx_Q t x.toNatClampNeg (fun _ => none)) x.toNatClampNeg) else none
  | _ => none
/-- which class of cells an array of references takes -/
def jx_et : Nat → Nat
  | 4 => 19
  | 5 => 5
  | 6 => 6
  | 7 => 15
  | _ => 99
/-- loads, stores, constants, arithmetic -/
def jx_sa (i : Instr) (ls st : List Value) (h : jx_H) : Option jx_A := match i with
  | .iconst v => jx_nx ls (.int (Int32.ofInt v) :: st) h
  | .jsr v => jx_nx ls (.long (Int64.ofInt v) :: st) h
  | .ldc k => jx_nx ls (.ref (4 + k) :: st) h
  | .aconst_null => jx_nx ls (.null :: st) h
  | .getstatic k => jx_nx ls ((if k = 3 then .int 1 else .ref k) :: st) h
  | .iload k => match jx_gl ls k with
    | .int x => jx_nx ls (.int x :: st) h
    | _ => none
  | .lload k => match jx_gl ls k with
    | .long x => jx_nx ls (.long x :: st) h
    | _ => none
  | .aload k => match jx_gl ls k with
    | .ref x => jx_nx ls (.ref x :: st) h
    | .null => jx_nx ls (.null :: st) h
    | _ => none
  | .istore k => match st with
    | .int x :: r => jx_nx (jx_s1 ls k (.int x)) r h
    | _ => none
  | .lstore k => match st with
    | .long x :: r => jx_nx (jx_s2 ls k x) r h
    | _ => none
  | .astore k => match st with
    | .ref x :: r => jx_nx (jx_s1 ls k (.ref x)) r h
    | .null :: r => jx_nx (jx_s1 ls k .null) r h
    | _ => none
  | .iinc k n => match jx_gl ls k with
    | .int x => jx_nx (jx_s1 ls k (.int (x + Int32.ofInt n))) st h
    | _ => none
  | .iadd => jx_i2 (fun x y => x + y) ls st h
  | .isub => jx_i2 (fun x y => x - y) ls st h
  | .imul => jx_i2 (fun x y => x * y) ls st h
  | .iand => jx_i2 (fun x y => x &&& y) ls st h
  | .ior => jx_i2 (fun x y => x ||| y) ls st h
  | .ixor => jx_i2 (fun x y => x ^^^ y) ls st h
  | .ishl => jx_i2 (fun x y => x <<< (y &&& 31)) ls st h
  | .ishr => jx_i2 (fun x y => x >>> (y &&& 31)) ls st h
  | .iushr => jx_i2 (fun x y => (x.toUInt32 >>> (y.toUInt32 &&& Int32.toUInt32 31)).toInt32) ls st h
  | .ladd => jx_l2 (fun x y => x + y) ls st h
  | .lsub => jx_l2 (fun x y => x - y) ls st h
  | .lmul => jx_l2 (fun x y => x * y) ls st h
  | .land => jx_l2 (fun x y => x &&& y) ls st h
  | .lor => jx_l2 (fun x y => x ||| y) ls st h
  | .idiv => match st with
    | .int y :: .int x :: r => if y = 0 then none else jx_nx ls (.int (x / y) :: r) h
    | _ => none
  | .irem => match st with
    | .int y :: .int x :: r => if y = 0 then none else jx_nx ls (.int (x - x / y * y) :: r) h
    | _ => none
  | .ldiv => match st with
    | .long y :: .long x :: r => if y = 0 then none else jx_nx ls (.long (x / y) :: r) h
    | _ => none
  | .lrem => match st with
    | .long y :: .long x :: r => if y = 0 then none else jx_nx ls (.long (x - x / y * y) :: r) h
    | _ => none
  | .lcmp => match st with
    | .long y :: .long x :: r => jx_nx ls (.int (lg_cmp x y) :: r) h
    | _ => none
  | .i2l => match st with
    | .int x :: r => jx_nx ls (.long x.toInt64 :: r) h
    | _ => none
  | .l2i => match st with
    | .long x :: r => jx_nx ls (.int x.toInt32 :: r) h
    | _ => none
  | .i2b => match st with
    | .int x :: r => jx_nx ls (.int x.toInt8.toInt32 :: r) h
    | _ => none
  | .i2c => match st with
    | .int x :: r => jx_nx ls (.int (x.toUInt32 % 65536).toInt32 :: r) h
    | _ => none
  | .pop => match st with
    | a :: r => if jx_is2 a = true then none else jx_nx ls r h
    | _ => none
  | .dup => match st with
    | a :: r => if jx_is2 a = true then none else jx_nx ls (a :: a :: r) h
    | _ => none
  | .dup_x1 => match st with
    | a :: b :: r => if jx_is2 a = true ∨ jx_is2 b = true then none else jx_nx ls (a :: b :: a :: r) h
    | _ => none
  | .dup2 => match st with
    | a :: b :: r => if jx_is2 a = true ∨ jx_is2 b = true then none else jx_nx ls (a :: b :: a :: b :: r) h
    | _ => none
  | _ => none
/-- jumps, ends -/
def jx_sb (i : Instr) (ls st : List Value) (h : jx_H) : Option jx_A := match i with
  | .goto L => jx_jp L st
  | .goto_w L => jx_jp L st
  | .ifCond .eq L => jx_c1 (fun x => decide (x = 0)) L ls st h
  | .ifCond .ne L => jx_c1 (fun x => decide (¬ x = 0)) L ls st h
  | .ifCond .lt L => jx_c1 (fun x => decide (x < 0)) L ls st h
  | .ifCond .ge L => jx_c1 (fun x => decide (0 ≤ x)) L ls st h
  | .ifCond .gt L => jx_c1 (fun x => decide (0 < x)) L ls st h
  | .ifCond .le L => jx_c1 (fun x => decide (x ≤ 0)) L ls st h
  | .if_icmp .eq L => jx_c2 (fun x y => decide (x = y)) L ls st h
  | .if_icmp .ne L => jx_c2 (fun x y => decide (¬ x = y)) L ls st h
  | .if_icmp .lt L => jx_c2 (fun x y => decide (x < y)) L ls st h
  | .if_icmp .ge L => jx_c2 (fun x y => decide (y ≤ x)) L ls st h
  | .if_icmp .gt L => jx_c2 (fun x y => decide (y < x)) L ls st h
  | .if_icmp .le L => jx_c2 (fun x y => decide (x ≤ y)) L ls st h
  | .ifnull L => match st with
    | .null :: r => jx_jp L r
    | .ref k :: r => if 3 ≤ k then jx_nx ls r h else none
    | _ => none
  | .ifnonnull L => match st with
    | .null :: r => jx_nx ls r h
    | .ref k :: r => if 3 ≤ k then jx_jp L r else none
    | _ => none
  | .tableswitch dflt lo hi offs => match st with
    | .int x :: r => if x.toInt < lo ∨ hi < x.toInt then jx_jp dflt r else match offs[(x.toInt - lo).toNat]? with
      | some L => jx_jp L r
      | none => none
    | _ => none
  | .lookupswitch dflt ps => match st with
    | .int x :: r => jx_jp (Op.lookupswitch.offset ps.toList dflt x.toInt) r
    | _ => none
  | .ireturn => match st with
    | [.int x] => jx_rt (some (.int x))
    | _ => none
  | .freturn => match st with
    | [.int x] => if x &&& 1 = x then jx_rt (some (.int x)) else none
    | _ => none
  | .dreturn => match st with
    | [.int x] => if 0 ≤ x.toInt ∧ x.toInt < 128 then jx_rt (some (.int x)) else none
    | _ => none
  | .lreturn => match st with
    | [.long x] => jx_rt (some (.long x))
    | _ => none
  | .areturn => match st with
    | [.ref k] => if 3 ≤ k then jx_rt (some (.ref k)) else none
    | [.null] => jx_rt (some .null)
    | _ => none
  | .return_ => match st with
    | [] => jx_rt none
    | _ => none
  | .athrow => match st with
    | .ref k :: _ => match h.1 k with
      | .inr (2, _) => jx_th
      | _ => none
    | _ => none
  | _ => none
/-- heap, calls -/
def jx_sc (dt : Nat → Nat → Nat) (i : Instr) (ls st : List Value) (h : jx_H) : Option jx_A := match i with
  | .invokeinterface ci k => match st with
    | .ref a :: r => match h.1 a with
      | .inr (c, fs) => if c = ci then match fs[k]? with
        | some v => jx_nx ls (v :: r) h
        | none => none
        else none
      | _ => none
    | _ => none
  | .multianewarray ci kk => match st with
    | v :: .ref a :: r => match h.1 a with
      | .inr (c, fs) => if c = ci then match kk / 100, v with
        | 0, .int x => jx_nx ls r (jx_put h a (.inr (ci, fs.set (kk % 100) (.int x))))
        | 1, .long x => jx_nx ls r (jx_put h a (.inr (ci, fs.set (kk % 100) (.long x))))
        | 2, .ref x => jx_nx ls r (jx_put h a (.inr (ci, fs.set (kk % 100) (.ref x))))
        | 2, .null => jx_nx ls r (jx_put h a (.inr (ci, fs.set (kk % 100) .null)))
        | 3, .int x => if x &&& 1 = x then jx_nx ls r (jx_put h a (.inr (ci, fs.set (kk % 100) (.int x)))) else none
        | _, _ => none
        else none
      | _ => none
    | _ => none
  | .iaload => match st with
    | .int j :: .ref a :: r => match h.1 a with
      | .inl (t, n, .inl f) => if t = 0 ∨ t = 8 then match jx_ix j n with
        | some k => jx_nx ls (.int (f k) :: r) h
        | none => none
        else none
      | _ => none
    | _ => none
  | .baload => match st with
    | .int j :: .ref a :: r => match h.1 a with
      | .inl (t, n, .inl f) => if t = 1 ∨ t = 3 ∨ t = 9 then match jx_ix j n with
        | some k => jx_nx ls (.int (f k) :: r) h
        | none => none
        else none
      | _ => none
    | _ => none
  | .laload => match st with
    | .int j :: .ref a :: r => match h.1 a with
      | .inl (2, n, .inr (.inl f)) => match jx_ix j n with
        | some k => jx_nx ls (.long (f k) :: r) h
        | none => none
      | _ => none
    | _ => none
  | .aaload => match st with
    | .int j :: .ref a :: r => match h.1 a with
      | .inl (t, n, .inr (.inr (.inr (.inr f)))) => if 4 ≤ t ∧ t < 8 then match jx_ix j n with
        | some k => jx_nx ls (va_rf (f k) :: r) h
        | none => none
        else none
      | _ => none
    | _ => none
  | .iastore => match st with
    | .int x :: .int j :: .ref a :: r => match h.1 a with
      | .inl (0, n, .inl f) => match jx_ix j n with
        | some k => jx_nx ls r (jx_put h a (.inl (0, n, .inl (upd f k x))))
        | none => none
      | _ => none
    | _ => none
  | .bastore => match st with
    | .int x :: .int j :: .ref a :: r => match h.1 a with
      | .inl (1, n, .inl f) => match jx_ix j n with
        | some k => jx_nx ls r (jx_put h a (.inl (1, n, .inl (upd f k x.toInt8.toInt32))))
        | none => none
      | .inl (3, n, .inl f) => match jx_ix j n with
        | some k => jx_nx ls r (jx_put h a (.inl (3, n, .inl (upd f k (x &&& 1)))))
        | none => none
      | _ => none
    | _ => none
  | .lastore => match st with
    | .long x :: .int j :: .ref a :: r => match h.1 a with
      | .inl (2, n, .inr (.inl f)) => match jx_ix j n with
        | some k => jx_nx ls r (jx_put h a (.inl (2, n, .inr (.inl (vp_updL f k x)))))
        | none => none
      | _ => none
    | _ => none
  | .aastore => match st with
    | .ref x :: .int j :: .ref a :: r => match h.1 a, h.1 x with
      | .inl (t, n, .inr (.inr (.inr (.inr f)))), .inr (ci, _) => if 4 ≤ t ∧ t < 8 ∧ ci = jx_et t then match jx_ix j n with
        | some k => jx_nx ls r (jx_put h a (.inl (t, n, .inr (.inr (.inr (.inr (va_up f k (some x))))))))
        | none => none
        else none
      | _, _ => none
    | _ => none
  | .arraylength => match st with
    | .ref a :: r => match h.1 a with
      | .inl (t, n, _) => if t < 10 then jx_nx ls (.int (Int32.ofNat n) :: r) h else none
      | _ => none
    | _ => none
  | .newarray .int => jx_ar 0 ls st h
  | .newarray .byte => jx_ar 1 ls st h
  | .newarray .long => jx_ar 2 ls st h
  | .newarray .boolean => jx_ar 3 ls st h
  | .anewarray t => if 4 ≤ t ∧ t < 8 then jx_ar t ls st h else none
  | .new ci => jx_nx ls (.ref h.2.1 :: st) (jx_new h (.inr (ci, jx_nf ci)) (jx_nf ci).length)
  | .monitorenter => match st with
    | .ref k :: r => if 3 ≤ k ∧ r.length ≤ 4 then jx_nx ls r h else none
    | _ => none
  | .monitorexit => match st with
    | .int n :: .int dp :: .ref b :: .int sp :: .ref a :: r => match h.1 a, h.1 b with
      | .inl (0, n0, .inl f), .inl (0, n1, .inl g) =>
        if 0 ≤ n.toInt ∧ 0 ≤ sp.toInt ∧ 0 ≤ dp.toInt ∧ sp.toInt + n.toInt ≤ (n0 : Int) ∧ dp.toInt + n.toInt ≤ (n1 : Int) then
          (if r.length ≤ 4 then jx_nx ls r (jx_put h b (.inl (0, n1, .inl (va_cpy f g sp.toNatClampNeg dp.toNatClampNeg n.toNatClampNeg)))) else none)
        else none
      | _, _ => none
    | _ => none
  | .swap => match st with
    | .int y :: .int x :: r => if r.length ≤ 4 then jx_nx ls (.int (if x < y then y else x) :: r) h else none
    | _ => none
  | .nop => match st with
    | .int y :: .int x :: r => if r.length ≤ 4 then jx_nx ls (.int (if y < x then y else x) :: r) h else none
    | _ => none
  | .invokevirtual z => match jx_pop (z % 10) st [] with
    | some (as, .ref b :: r) => match h.1 b with
      | .inr (ci, _) => if ci = z / 10000 % 100 then jx_cl (z / 10 % 1000) (.ref b :: as) r (z / 1000000) else none
      | _ => none
    | _ => none
  | .fload z => match jx_pop (z % 10) st [] with
    | some (as, .ref b :: r) => match h.1 b with
      | .inr (ci, _) => jx_cl (jx_dp dt (z / 10) ci) (.ref b :: as) r 1
      | _ => none
    | _ => none
  | .invokespecial z => match jx_pop (z % 10) st [] with
    | some (as, .ref b :: r) => if 3 ≤ b then jx_cl (z / 10 % 1000) (.ref b :: as) r 1 else none
    | _ => none
  | .invokestatic z => match jx_pop (z % 10) st [] with
    | some (as, r) => jx_cl (z / 10 % 1000) as r 1
    | _ => none
  | _ => none
/-- one step: by kind of the instruction -/
def jx_st (dt : Nat → Nat → Nat) (i : Instr) (ls st : List Value) (h : jx_H) : Option jx_A := match jx_sa i ls st h with
  | some a => some a
  | none => match jx_sb i ls st h with
    | some a => some a
    | none => jx_sc dt i ls st h
/-- a program: blocks by method and label; entry locals' shape; dispatch; has it handlers -/
abbrev jx_P : Type := (Nat → Nat → List Instr) × ((Nat → List Value → Option (List Value)) × ((Nat → Nat → Nat) × (Nat → Bool)))
def jx_ex (P : jx_P) : Nat → Nat → Nat → List Instr → List Value → List Value → jx_H → Option jx_R
  | 0, _, _, _, _, _, _ => none
  | f + 1, d, y, c, ls, st, h => match c with
    | [] => none
    | i :: r => match jx_st P.2.2.1 i ls st h with
      | none => none
      | some (.inl (ls', st', h')) => jx_ex P f d y r ls' st' h'
      | some (.inr (.inl (L, st'))) => jx_ex P f d y (P.1 y L) ls st' h
      | some (.inr (.inr (.inl (z, args, st', hd)))) => match d, P.2.1 z args with
        | d' + 1, some l0 => match jx_ex P f d' z (P.1 z 0) l0 [] h with
          | none => none
          | some (.inl v, h') => jx_ex P f (d' + 1) y r ls (v.toList ++ st') h'
          | some (.inr _, h') => if hd = 0 then (if P.2.2.2 y = true then none else some (.inr (), h')) else if hd = 1 then none else jx_ex P f (d' + 1) y (P.1 y (hd / 10)) (jx_s1 ls (hd % 10) jx_un) [] h'
        | _, _ => none
      | some (.inr (.inr (.inr o))) => some (o, h)
