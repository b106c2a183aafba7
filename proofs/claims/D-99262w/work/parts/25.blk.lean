/-! BLOCKS AND ENTRIES (printed by tools/blk.py) -/
set_option maxRecDepth 100000
section XB
variable {d : Nat} {ls st : List Value} {h : jx_H}
theorem eb_1_0 : jx_eb d 1 0 ls st h = jx_ev d 1 [.lload 0, .lload 2, .lcmp, .ifCond .lt 17, .lload 0, .lload 4, .lcmp, .ifCond .gt 17, .iconst 1, .goto 18] ls st h := rfl
theorem eb_1_17 : jx_eb d 1 17 ls st h = jx_ev d 1 [.iconst 0, .goto_w 18] ls st h := rfl
theorem eb_1_18 : jx_eb d 1 18 ls st h = jx_ev d 1 [.freturn] ls st h := rfl
theorem cr_1 {a1 : Int64} {a2 : Int64} {a3 : Int64}  : jx_cr (d + 1) 1 [.long a1, .long a2, .long a3] h = jx_eb d 1 0 [.long a1, jx_sn, .long a2, jx_sn, .long a3, jx_sn] [] h := rfl
theorem eb_2_0 : jx_eb d 2 0 ls st h = jx_ev d 2 [.iload 0, .iload 1, .ishr, .iconst 1, .iand, .iconst 1, .if_icmp .ne 13, .iconst 1, .goto 14] ls st h := rfl
theorem eb_2_13 : jx_eb d 2 13 ls st h = jx_ev d 2 [.iconst 0, .goto_w 14] ls st h := rfl
theorem eb_2_14 : jx_eb d 2 14 ls st h = jx_ev d 2 [.freturn] ls st h := rfl
theorem cr_2 {a1 : Int32} {a2 : Int32}  : jx_cr (d + 1) 2 [.int a1, .int a2] h = jx_eb d 2 0 [.int a1, .int a2] [] h := rfl
theorem eb_3_0 : jx_eb d 3 0 ls st h = jx_ev d 3 [.aload 0, .monitorenter, .aload 0, .new 1, .dup, .invokespecial 1660, .multianewarray 0 201, .aload 0, .new 1, .dup, .invokespecial 1660, .multianewarray 0 202, .aload 0, .new 1, .dup, .invokespecial 1660, .multianewarray 0 203, .aload 0, .new 1, .dup, .invokespecial 1660, .multianewarray 0 204, .aload 0, .iconst (-1), .multianewarray 0 6, .aload 0, .new 2, .dup, .invokespecial 1820, .multianewarray 0 207, .aload 0, .iconst 400, .newarray .byte, .multianewarray 0 208, .aload 0, .iconst 5, .anewarray 4, .dup, .iconst 0, .ldc 1, .aastore, .dup, .iconst 1, .ldc 2, .aastore, .dup, .iconst 2, .ldc 3, .aastore, .dup, .iconst 3, .ldc 4, .aastore, .dup, .iconst 4, .ldc 5, .aastore, .multianewarray 0 210, .aload 0, .iconst 1, .anewarray 4, .dup, .iconst 0, .ldc 6, .aastore, .multianewarray 0 211, .aload 0, .iconst 12, .anewarray 4, .dup, .iconst 0, .ldc 2, .aastore, .dup, .iconst 1, .ldc 7, .aastore, .dup, .iconst 2, .ldc 8, .aastore, .dup, .iconst 3, .ldc 9, .aastore, .dup, .iconst 4, .ldc 10, .aastore, .dup, .iconst 5, .ldc 11, .aastore, .dup, .iconst 6, .ldc 12, .aastore, .dup, .iconst 7, .ldc 13, .aastore, .dup, .iconst 8, .ldc 14, .aastore, .dup, .iconst 9, .ldc 15, .aastore, .dup, .iconst 10, .ldc 16, .aastore, .dup, .iconst 11, .ldc 17, .aastore, .multianewarray 0 212, .aload 0, .iconst 6, .anewarray 5, .multianewarray 0 213, .aload 0, .iconst 25, .newarray .int, .multianewarray 0 215, .aload 0, .iconst 25, .newarray .int, .multianewarray 0 216, .aload 0, .iconst 66, .newarray .int, .multianewarray 0 217, .aload 0, .iconst 7, .newarray .boolean, .multianewarray 0 218, .aload 0, .iconst 427, .newarray .int, .multianewarray 0 219, .aload 0, .iconst 4, .anewarray 7, .multianewarray 0 221, .return_] ls st h := rfl
theorem cr_3 {r : Nat}  : jx_cr (d + 1) 3 [.ref r] h = jx_eb d 3 0 [.ref r] [] h := rfl
theorem eb_4_0 : jx_eb d 4 0 ls st h = jx_ev d 4 [.aload 0, .invokeinterface 0 9, .iconst 20, .iadd, .iconst 400, .if_icmp .le 15, .iconst (-1), .ireturn] ls st h := rfl
theorem eb_4_15 : jx_eb d 4 15 ls st h = jx_ev d 4 [.aload 0, .iload 1, .invokevirtual 51, .aload 0, .iload 2, .invokevirtual 51, .aload 0, .iload 3, .invokevirtual 51, .aload 0, .iload 4, .invokevirtual 51, .aload 0, .iload 5, .invokevirtual 51, .aload 0, .invokeinterface 0 9, .ireturn] ls st h := rfl
theorem cr_4 {r : Nat} {a1 : Int32} {a2 : Int32} {a3 : Int32} {a4 : Int32} {a5 : Int32}  : jx_cr (d + 1) 4 [.ref r, .int a1, .int a2, .int a3, .int a4, .int a5] h = jx_eb d 4 0 [.ref r, .int a1, .int a2, .int a3, .int a4, .int a5] [] h := rfl
theorem eb_5_0 : jx_eb d 5 0 ls st h = jx_ev d 5 [.iconst 24, .istore 2, .goto_w 3] ls st h := rfl
theorem eb_5_3 : jx_eb d 5 3 ls st h = jx_ev d 5 [.iload 2, .ifCond .lt 36, .aload 0, .invokeinterface 0 8, .aload 0, .invokeinterface 0 9, .iload 1, .iload 2, .ishr, .i2b, .bastore, .aload 0, .dup, .invokeinterface 0 9, .iconst 1, .iadd, .multianewarray 0 9, .iinc 2 (-8), .goto 3] ls st h := rfl
theorem eb_5_36 : jx_eb d 5 36 ls st h = jx_ev d 5 [.return_] ls st h := rfl
theorem cr_5 {r : Nat} {a1 : Int32}  : jx_cr (d + 1) 5 [.ref r, .int a1] h = jx_eb d 5 0 [.ref r, .int a1, jx_un] [] h := rfl
theorem eb_6_0 : jx_eb d 6 0 ls st h = jx_ev d 6 [.iload 1, .ifCond .lt 12, .iload 1, .aload 0, .invokeinterface 0 9, .if_icmp .le 14, .goto_w 12] ls st h := rfl
theorem eb_6_12 : jx_eb d 6 12 ls st h = jx_ev d 6 [.iconst (-1), .ireturn] ls st h := rfl
theorem eb_6_14 : jx_eb d 6 14 ls st h = jx_ev d 6 [.aload 0, .iload 1, .multianewarray 0 9, .iload 1, .ireturn] ls st h := rfl
theorem cr_6 {r : Nat} {a1 : Int32}  : jx_cr (d + 1) 6 [.ref r, .int a1] h = jx_eb d 6 0 [.ref r, .int a1] [] h := rfl
theorem eb_7_0 : jx_eb d 7 0 ls st h = jx_ev d 7 [.iconst (-2), .iconst 1, .iconst 8, .aload 0, .invokeinterface 0 7, .invokeinterface 2 7, .imul, .iadd, .aload 0, .invokeinterface 0 7, .invokeinterface 2 6, .iadd, .isub, .ireturn] ls st h := rfl
theorem cr_7 {r : Nat}  : jx_cr (d + 1) 7 [.ref r] h = jx_eb d 7 0 [.ref r] [] h := rfl
theorem eb_8_0 : jx_eb d 8 0 ls st h = jx_ev d 8 [.aload 0, .aload 0, .invokeinterface 0 1, .new 4, .dup, .aload 0, .invokespecial 1931, .invokevirtual 342042120, .invokevirtual 11671, .multianewarray 0 200, .aload 0, .invokeinterface 0 0, .invokeinterface 1 2, .istore 1, .goto 39] ls st h := rfl
theorem eb_8_34 : jx_eb d 8 34 ls st h = jx_ev d 8 [.aload 0, .invokevirtual 70, .istore 1, .goto_w 39] ls st h := rfl
theorem eb_8_39 : jx_eb d 8 39 ls st h = jx_ev d 8 [.aload 0, .iconst 0, .multianewarray 0 9, .iload 1, .ireturn] ls st h := rfl
theorem cr_8 {r : Nat}  : jx_cr (d + 1) 8 [.ref r] h = jx_eb d 8 0 [.ref r, jx_un, jx_un] [] h := rfl
theorem eb_9_0 : jx_eb d 9 0 ls st h = jx_ev d 9 [.aload 0, .invokeinterface 0 14, .iconst 6, .if_icmp .ne 11, .iconst (-1), .ireturn] ls st h := rfl
theorem eb_9_11 : jx_eb d 9 11 ls st h = jx_ev d 9 [.aload 0, .invokeinterface 0 14, .istore 1, .aload 0, .invokeinterface 0 13, .aload 0, .invokeinterface 0 14, .new 4, .dup, .aload 0, .invokespecial 1931, .invokevirtual 502042140, .aastore, .aload 0, .dup, .invokeinterface 0 14, .iconst 1, .iadd, .multianewarray 0 14, .goto 55] ls st h := rfl
theorem eb_9_50 : jx_eb d 9 50 ls st h = jx_ev d 9 [.aload 0, .invokevirtual 70, .istore 1, .goto_w 55] ls st h := rfl
theorem eb_9_55 : jx_eb d 9 55 ls st h = jx_ev d 9 [.aload 0, .iconst 0, .multianewarray 0 9, .iload 1, .ireturn] ls st h := rfl
theorem cr_9 {r : Nat}  : jx_cr (d + 1) 9 [.ref r] h = jx_eb d 9 0 [.ref r, jx_un, jx_un] [] h := rfl
theorem eb_10_0 : jx_eb d 10 0 ls st h = jx_ev d 10 [.iload 1, .iconst (-1), .if_icmp .eq 20, .iload 1, .ifCond .lt 17, .iload 1, .aload 0, .invokeinterface 0 14, .if_icmp .lt 20, .goto_w 17] ls st h := rfl
theorem eb_10_17 : jx_eb d 10 17 ls st h = jx_ev d 10 [.iconst (-2), .ireturn] ls st h := rfl
theorem eb_10_20 : jx_eb d 10 20 ls st h = jx_ev d 10 [.aload 0, .invokeinterface 0 6, .istore 2, .aload 0, .iload 1, .multianewarray 0 6, .iload 2, .ireturn] ls st h := rfl
theorem cr_10 {r : Nat} {a1 : Int32}  : jx_cr (d + 1) 10 [.ref r, .int a1] h = jx_eb d 10 0 [.ref r, .int a1, jx_un] [] h := rfl
theorem eb_11_0 : jx_eb d 11 0 ls st h = jx_ev d 11 [.aload 0, .invokeinterface 0 6, .iconst (-1), .if_icmp .ne 12, .aconst_null, .goto 21] ls st h := rfl
theorem eb_11_12 : jx_eb d 11 12 ls st h = jx_ev d 11 [.aload 0, .invokeinterface 0 13, .aload 0, .invokeinterface 0 6, .aaload, .goto_w 21] ls st h := rfl
theorem eb_11_21 : jx_eb d 11 21 ls st h = jx_ev d 11 [.areturn] ls st h := rfl
theorem cr_11 {r : Nat}  : jx_cr (d + 1) 11 [.ref r] h = jx_eb d 11 0 [.ref r] [] h := rfl
theorem eb_12_0 : jx_eb d 12 0 ls st h = jx_ev d 12 [.aload 0, .invokeinterface 0 0, .ifnull 26, .iload 1, .ifCond .lt 26, .iload 1, .aload 0, .invokeinterface 0 0, .invokeinterface 1 2, .if_icmp .ge 26, .iconst 1, .goto 27] ls st h := rfl
theorem eb_12_26 : jx_eb d 12 26 ls st h = jx_ev d 12 [.iconst 0, .goto_w 27] ls st h := rfl
theorem eb_12_27 : jx_eb d 12 27 ls st h = jx_ev d 12 [.freturn] ls st h := rfl
theorem cr_12 {r : Nat} {a1 : Int32}  : jx_cr (d + 1) 12 [.ref r, .int a1] h = jx_eb d 12 0 [.ref r, .int a1] [] h := rfl
theorem eb_13_0 : jx_eb d 13 0 ls st h = jx_ev d 13 [.aload 0, .invokeinterface 0 0, .ifnull 26, .iload 1, .ifCond .lt 26, .iload 1, .aload 0, .invokeinterface 0 0, .invokeinterface 1 3, .if_icmp .ge 26, .iconst 1, .goto 27] ls st h := rfl
theorem eb_13_26 : jx_eb d 13 26 ls st h = jx_ev d 13 [.iconst 0, .goto_w 27] ls st h := rfl
theorem eb_13_27 : jx_eb d 13 27 ls st h = jx_ev d 13 [.freturn] ls st h := rfl
theorem cr_13 {r : Nat} {a1 : Int32}  : jx_cr (d + 1) 13 [.ref r, .int a1] h = jx_eb d 13 0 [.ref r, .int a1] [] h := rfl
theorem eb_14_0 : jx_eb d 14 0 ls st h = jx_ev d 14 [.aload 0, .iload 1, .invokevirtual 121, .ifCond .ne 10, .iconst (-1), .ireturn] ls st h := rfl
theorem eb_14_10 : jx_eb d 14 10 ls st h = jx_ev d 14 [.iload 2, .tableswitch 79 0 3 #[40, 50, 60, 69]] ls st h := rfl
theorem eb_14_40 : jx_eb d 14 40 ls st h = jx_ev d 14 [.aload 0, .invokeinterface 0 0, .invokeinterface 1 11, .iload 1, .iaload, .ireturn] ls st h := rfl
theorem eb_14_50 : jx_eb d 14 50 ls st h = jx_ev d 14 [.aload 0, .invokeinterface 0 0, .invokeinterface 1 17, .iload 1, .iaload, .ireturn] ls st h := rfl
theorem eb_14_60 : jx_eb d 14 60 ls st h = jx_ev d 14 [.aload 0, .invokeinterface 0 0, .iload 1, .invokevirtual 11741, .ireturn] ls st h := rfl
theorem eb_14_69 : jx_eb d 14 69 ls st h = jx_ev d 14 [.aload 0, .invokeinterface 0 0, .invokeinterface 1 13, .iload 1, .iaload, .ireturn] ls st h := rfl
theorem eb_14_79 : jx_eb d 14 79 ls st h = jx_ev d 14 [.iconst (-1), .ireturn] ls st h := rfl
theorem cr_14 {r : Nat} {a1 : Int32} {a2 : Int32}  : jx_cr (d + 1) 14 [.ref r, .int a1, .int a2] h = jx_eb d 14 0 [.ref r, .int a1, .int a2] [] h := rfl
theorem eb_15_0 : jx_eb d 15 0 ls st h = jx_ev d 15 [.aload 0, .invokeinterface 0 0, .ifnull 26, .iload 1, .i2l, .jsr 0, .aload 0, .invokeinterface 0 0, .invokeinterface 1 0, .iconst 1, .isub, .i2l, .invokestatic 13, .ifCond .ne 31, .goto_w 26] ls st h := rfl
theorem eb_15_26 : jx_eb d 15 26 ls st h = jx_ev d 15 [.iconst (-2), .goto 40] ls st h := rfl
theorem eb_15_31 : jx_eb d 15 31 ls st h = jx_ev d 15 [.aload 0, .invokeinterface 0 0, .invokeinterface 1 12, .iload 1, .iaload, .goto_w 40] ls st h := rfl
theorem eb_15_40 : jx_eb d 15 40 ls st h = jx_ev d 15 [.ireturn] ls st h := rfl
theorem cr_15 {r : Nat} {a1 : Int32}  : jx_cr (d + 1) 15 [.ref r, .int a1] h = jx_eb d 15 0 [.ref r, .int a1] [] h := rfl
theorem eb_16_0 : jx_eb d 16 0 ls st h = jx_ev d 16 [.aload 0, .iload 1, .invokevirtual 131, .ifCond .ne 10, .iconst (-1), .ireturn] ls st h := rfl
theorem eb_16_10 : jx_eb d 16 10 ls st h = jx_ev d 16 [.iload 2, .tableswitch 93 0 4 #[44, 54, 64, 74, 83]] ls st h := rfl
theorem eb_16_44 : jx_eb d 16 44 ls st h = jx_ev d 16 [.aload 0, .invokeinterface 0 0, .invokeinterface 1 18, .iload 1, .iaload, .ireturn] ls st h := rfl
theorem eb_16_54 : jx_eb d 16 54 ls st h = jx_ev d 16 [.aload 0, .invokeinterface 0 0, .invokeinterface 1 15, .iload 1, .iaload, .ireturn] ls st h := rfl
theorem eb_16_64 : jx_eb d 16 64 ls st h = jx_ev d 16 [.aload 0, .invokeinterface 0 0, .invokeinterface 1 19, .iload 1, .iaload, .ireturn] ls st h := rfl
theorem eb_16_74 : jx_eb d 16 74 ls st h = jx_ev d 16 [.aload 0, .invokeinterface 0 0, .iload 1, .invokevirtual 11721, .ireturn] ls st h := rfl
theorem eb_16_83 : jx_eb d 16 83 ls st h = jx_ev d 16 [.aload 0, .invokeinterface 0 0, .invokeinterface 1 20, .iload 1, .iaload, .ireturn] ls st h := rfl
theorem eb_16_93 : jx_eb d 16 93 ls st h = jx_ev d 16 [.iconst (-1), .ireturn] ls st h := rfl
theorem cr_16 {r : Nat} {a1 : Int32} {a2 : Int32}  : jx_cr (d + 1) 16 [.ref r, .int a1, .int a2] h = jx_eb d 16 0 [.ref r, .int a1, .int a2] [] h := rfl
theorem eb_17_0 : jx_eb d 17 0 ls st h = jx_ev d 17 [.aload 0, .invokeinterface 0 0, .invokeinterface 1 5, .iconst 20, .if_icmp .ne 48, .aload 0, .invokeinterface 0 0, .invokeinterface 1 21, .iconst 28, .aload 0, .invokeinterface 0 0, .invokeinterface 1 21, .iconst 0, .iconst 532, .monitorexit, .aload 0, .invokeinterface 0 0, .dup, .invokeinterface 1 5, .iconst 1, .isub, .multianewarray 1 5, .goto_w 48] ls st h := rfl
theorem eb_17_48 : jx_eb d 17 48 ls st h = jx_ev d 17 [.aload 0, .invokeinterface 0 0, .aload 0, .invokeinterface 0 0, .invokeinterface 1 5, .invokevirtual 11691, .aload 0, .invokeinterface 0 0, .dup, .invokeinterface 1 5, .iconst 1, .iadd, .multianewarray 1 5, .return_] ls st h := rfl
theorem cr_17 {r : Nat}  : jx_cr (d + 1) 17 [.ref r] h = jx_eb d 17 0 [.ref r] [] h := rfl
theorem eb_18_0 : jx_eb d 18 0 ls st h = jx_ev d 18 [.aload 0, .invokeinterface 0 0, .ifnull 17, .aload 0, .invokeinterface 0 0, .invokeinterface 1 5, .ifCond .ne 20, .goto_w 17] ls st h := rfl
theorem eb_18_17 : jx_eb d 18 17 ls st h = jx_ev d 18 [.iconst (-2), .ireturn] ls st h := rfl
theorem eb_18_20 : jx_eb d 18 20 ls st h = jx_ev d 18 [.aload 0, .invokeinterface 0 0, .dup, .invokeinterface 1 5, .iconst 1, .isub, .multianewarray 1 5, .aload 0, .invokeinterface 0 0, .aload 0, .invokeinterface 0 0, .invokeinterface 1 5, .invokevirtual 11701, .aload 0, .invokeinterface 0 0, .invokeinterface 1 5, .ireturn] ls st h := rfl
theorem cr_18 {r : Nat}  : jx_cr (d + 1) 18 [.ref r] h = jx_eb d 18 0 [.ref r] [] h := rfl
theorem eb_19_0 : jx_eb d 19 0 ls st h = jx_ev d 19 [.aload 0, .invokeinterface 0 0, .ifnull 20, .aload 0, .invokeinterface 0 0, .invokeinterface 1 7, .iconst 999, .if_icmp .ne 22, .goto_w 20] ls st h := rfl
theorem eb_19_20 : jx_eb d 19 20 ls st h = jx_ev d 19 [.iconst (-1), .ireturn] ls st h := rfl
theorem eb_19_22 : jx_eb d 19 22 ls st h = jx_ev d 19 [.aload 0, .invokevirtual 170, .aload 0, .invokeinterface 0 0, .aload 0, .invokevirtual 110, .invokevirtual 11801, .ireturn] ls st h := rfl
theorem cr_19 {r : Nat}  : jx_cr (d + 1) 19 [.ref r] h = jx_eb d 19 0 [.ref r] [] h := rfl
theorem eb_20_0 : jx_eb d 20 0 ls st h = jx_ev d 20 [.aload 0, .iload 1, .invokevirtual 131, .ifCond .eq 20, .iload 2, .i2l, .jsr 1, .jsr 99, .invokestatic 13, .ifCond .ne 22, .goto_w 20] ls st h := rfl
theorem eb_20_20 : jx_eb d 20 20 ls st h = jx_ev d 20 [.iconst (-1), .ireturn] ls st h := rfl
theorem eb_20_22 : jx_eb d 20 22 ls st h = jx_ev d 20 [.aload 0, .invokevirtual 170, .aload 0, .invokeinterface 0 0, .iload 1, .iload 2, .invokevirtual 11762, .aload 0, .invokeinterface 0 0, .invokeinterface 1 18, .iload 1, .iaload, .ireturn] ls st h := rfl
theorem cr_20 {r : Nat} {a1 : Int32} {a2 : Int32}  : jx_cr (d + 1) 20 [.ref r, .int a1, .int a2] h = jx_eb d 20 0 [.ref r, .int a1, .int a2] [] h := rfl
theorem eb_21_0 : jx_eb d 21 0 ls st h = jx_ev d 21 [.aload 0, .iload 1, .invokevirtual 131, .ifCond .eq 33, .iload 2, .i2l, .jsr 1, .jsr 99, .invokestatic 13, .ifCond .eq 33, .aload 0, .invokeinterface 0 0, .invokeinterface 1 18, .iload 1, .iaload, .iload 2, .if_icmp .ge 35, .goto_w 33] ls st h := rfl
theorem eb_21_33 : jx_eb d 21 33 ls st h = jx_ev d 21 [.iconst (-1), .ireturn] ls st h := rfl
theorem eb_21_35 : jx_eb d 21 35 ls st h = jx_ev d 21 [.aload 0, .invokevirtual 170, .aload 0, .invokeinterface 0 0, .invokeinterface 1 18, .iload 1, .dup2, .iaload, .iload 2, .isub, .iastore, .aload 0, .invokeinterface 0 0, .invokeinterface 1 18, .iload 1, .iaload, .ireturn] ls st h := rfl
theorem cr_21 {r : Nat} {a1 : Int32} {a2 : Int32}  : jx_cr (d + 1) 21 [.ref r, .int a1, .int a2] h = jx_eb d 21 0 [.ref r, .int a1, .int a2] [] h := rfl
theorem eb_22_0 : jx_eb d 22 0 ls st h = jx_ev d 22 [.aload 0, .invokeinterface 0 0, .ifnull 31, .iload 1, .iconst (-1), .if_icmp .eq 20, .aload 0, .iload 1, .invokevirtual 121, .ifCond .eq 31, .goto_w 20] ls st h := rfl
theorem eb_22_20 : jx_eb d 22 20 ls st h = jx_ev d 22 [.aload 0, .invokeinterface 0 0, .invokeinterface 1 9, .iload 1, .if_icmp .ne 34, .goto_w 31] ls st h := rfl
theorem eb_22_31 : jx_eb d 22 31 ls st h = jx_ev d 22 [.iconst (-2), .ireturn] ls st h := rfl
theorem eb_22_34 : jx_eb d 22 34 ls st h = jx_ev d 22 [.aload 0, .invokevirtual 170, .aload 0, .invokeinterface 0 0, .invokeinterface 1 9, .istore 2, .aload 0, .invokeinterface 0 0, .iload 1, .multianewarray 1 9, .iload 2, .ireturn] ls st h := rfl
theorem cr_22 {r : Nat} {a1 : Int32}  : jx_cr (d + 1) 22 [.ref r, .int a1] h = jx_eb d 22 0 [.ref r, .int a1, jx_un] [] h := rfl
theorem eb_23_0 : jx_eb d 23 0 ls st h = jx_ev d 23 [.aload 0, .invokeinterface 0 0, .ifnull 19, .iload 1, .i2l, .jsr 1, .jsr 9, .invokestatic 13, .ifCond .ne 21, .goto_w 19] ls st h := rfl
theorem eb_23_19 : jx_eb d 23 19 ls st h = jx_ev d 23 [.iconst (-1), .ireturn] ls st h := rfl
theorem eb_23_21 : jx_eb d 23 21 ls st h = jx_ev d 23 [.aload 0, .invokevirtual 170, .aload 0, .invokeinterface 0 0, .invokeinterface 1 10, .istore 2, .aload 0, .invokeinterface 0 0, .iload 1, .multianewarray 1 10, .iload 2, .ireturn] ls st h := rfl
theorem cr_23 {r : Nat} {a1 : Int32}  : jx_cr (d + 1) 23 [.ref r, .int a1] h = jx_eb d 23 0 [.ref r, .int a1, jx_un] [] h := rfl
theorem eb_24_0 : jx_eb d 24 0 ls st h = jx_ev d 24 [.aload 0, .iload 1, .invokevirtual 131, .ifCond .eq 32, .aload 0, .iload 2, .invokevirtual 121, .ifCond .eq 32, .aload 0, .invokeinterface 0 0, .invokeinterface 1 19, .iload 1, .iaload, .iload 2, .invokestatic 22, .ifCond .ne 34, .goto_w 32] ls st h := rfl
theorem eb_24_32 : jx_eb d 24 32 ls st h = jx_ev d 24 [.iconst (-1), .ireturn] ls st h := rfl
theorem eb_24_34 : jx_eb d 24 34 ls st h = jx_ev d 24 [.aload 0, .invokevirtual 170, .aload 0, .invokeinterface 0 0, .invokeinterface 1 19, .iload 1, .dup2, .iaload, .iconst 1, .iload 2, .ishl, .iconst (-1), .ixor, .iand, .iastore, .aload 0, .invokeinterface 0 0, .invokeinterface 1 19, .iload 1, .iaload, .ireturn] ls st h := rfl
theorem cr_24 {r : Nat} {a1 : Int32} {a2 : Int32}  : jx_cr (d + 1) 24 [.ref r, .int a1, .int a2] h = jx_eb d 24 0 [.ref r, .int a1, .int a2] [] h := rfl
theorem eb_25_0 : jx_eb d 25 0 ls st h = jx_ev d 25 [.aload 0, .invokeinterface 0 0, .ifnull 43, .iload 2, .i2l, .jsr 0, .jsr 100, .invokestatic 13, .ifCond .eq 43, .iload 3, .i2l, .jsr 0, .jsr 2, .invokestatic 13, .ifCond .eq 43, .iload 3, .ifCond .le 46, .aload 0, .iload 1, .invokevirtual 131, .ifCond .ne 46, .goto_w 43] ls st h := rfl
theorem eb_25_43 : jx_eb d 25 43 ls st h = jx_ev d 25 [.iconst (-2), .ireturn] ls st h := rfl
theorem eb_25_46 : jx_eb d 25 46 ls st h = jx_ev d 25 [.aload 0, .invokeinterface 0 2, .aload 0, .invokeinterface 0 0, .invokevirtual 11671, .iload 2, .aload 0, .invokevirtual 110, .invokevirtual 11812, .pop, .iload 3, .ifCond .ne 84, .aload 0, .invokeinterface 0 2, .aload 0, .invokevirtual 110, .invokevirtual 11781, .goto 110] ls st h := rfl
theorem eb_25_84 : jx_eb d 25 84 ls st h = jx_ev d 25 [.iload 3, .iconst 1, .if_icmp .ne 101, .aload 0, .invokeinterface 0 2, .invokeinterface 1 19, .iload 1, .iaload, .goto 110] ls st h := rfl
theorem eb_25_101 : jx_eb d 25 101 ls st h = jx_ev d 25 [.aload 0, .invokeinterface 0 2, .invokeinterface 1 18, .iload 1, .iaload, .goto_w 110] ls st h := rfl
theorem eb_25_110 : jx_eb d 25 110 ls st h = jx_ev d 25 [.ireturn] ls st h := rfl
theorem cr_25 {r : Nat} {a1 : Int32} {a2 : Int32} {a3 : Int32}  : jx_cr (d + 1) 25 [.ref r, .int a1, .int a2, .int a3] h = jx_eb d 25 0 [.ref r, .int a1, .int a2, .int a3] [] h := rfl
theorem eb_26_0 : jx_eb d 26 0 ls st h = jx_ev d 26 [.aload 0, .iload 1, .invokevirtual 131, .ifCond .eq 18, .iload 2, .i2l, .jsr 0, .jsr 1, .invokestatic 13, .ifCond .ne 21, .goto_w 18] ls st h := rfl
theorem eb_26_18 : jx_eb d 26 18 ls st h = jx_ev d 26 [.iconst (-3), .ireturn] ls st h := rfl
theorem eb_26_21 : jx_eb d 26 21 ls st h = jx_ev d 26 [.aload 0, .invokeinterface 0 2, .aload 0, .invokeinterface 0 0, .invokevirtual 11671, .pop, .iconst 0, .istore 3, .goto_w 35] ls st h := rfl
theorem eb_26_35 : jx_eb d 26 35 ls st h = jx_ev d 26 [.iload 3, .iconst 100, .if_icmp .ge 89, .aload 0, .invokeinterface 0 2, .aload 0, .invokevirtual 110, .invokevirtual 11801, .iload 1, .invokestatic 22, .ifCond .eq 83, .iload 2, .ifCond .ne 75, .aload 0, .invokeinterface 0 2, .invokeinterface 1 7, .iconst 1, .isub, .goto 82] ls st h := rfl
theorem eb_26_75 : jx_eb d 26 75 ls st h = jx_ev d 26 [.aload 0, .invokeinterface 0 2, .invokeinterface 1 8, .goto_w 82] ls st h := rfl
theorem eb_26_82 : jx_eb d 26 82 ls st h = jx_ev d 26 [.ireturn] ls st h := rfl
theorem eb_26_83 : jx_eb d 26 83 ls st h = jx_ev d 26 [.iinc 3 1, .goto 35] ls st h := rfl
theorem eb_26_89 : jx_eb d 26 89 ls st h = jx_ev d 26 [.iconst (-2), .ireturn] ls st h := rfl
theorem cr_26 {r : Nat} {a1 : Int32} {a2 : Int32}  : jx_cr (d + 1) 26 [.ref r, .int a1, .int a2] h = jx_eb d 26 0 [.ref r, .int a1, .int a2, jx_un] [] h := rfl
theorem eb_27_0 : jx_eb d 27 0 ls st h = jx_ev d 27 [.aload 0, .iload 1, .invokevirtual 131, .ifCond .eq 28, .aload 0, .iload 2, .invokevirtual 121, .ifCond .eq 28, .iload 3, .i2l, .jsr 1, .jsr 60, .invokestatic 13, .ifCond .ne 30, .goto_w 28] ls st h := rfl
theorem eb_27_28 : jx_eb d 27 28 ls st h = jx_ev d 27 [.iconst (-1), .ireturn] ls st h := rfl
theorem eb_27_30 : jx_eb d 27 30 ls st h = jx_ev d 27 [.aload 0, .invokeinterface 0 2, .aload 0, .invokeinterface 0 0, .invokevirtual 11671, .pop, .iconst 0, .istore 4, .goto_w 45] ls st h := rfl
theorem eb_27_45 : jx_eb d 27 45 ls st h = jx_ev d 27 [.iload 4, .iconst 200, .if_icmp .gt 103, .aload 0, .invokeinterface 0 2, .aload 0, .invokeinterface 0 0, .invokevirtual 11681, .iload 1, .iload 4, .invokevirtual 11762, .aload 0, .invokeinterface 0 2, .iload 3, .aload 0, .invokevirtual 110, .invokevirtual 11812, .invokeinterface 1 19, .iload 1, .iaload, .iload 2, .invokestatic 22, .ifCond .eq 97, .iload 4, .ireturn] ls st h := rfl
theorem eb_27_97 : jx_eb d 27 97 ls st h = jx_ev d 27 [.iinc 4 1, .goto 45] ls st h := rfl
theorem eb_27_103 : jx_eb d 27 103 ls st h = jx_ev d 27 [.iconst (-2), .ireturn] ls st h := rfl
theorem cr_27 {r : Nat} {a1 : Int32} {a2 : Int32} {a3 : Int32}  : jx_cr (d + 1) 27 [.ref r, .int a1, .int a2, .int a3] h = jx_eb d 27 0 [.ref r, .int a1, .int a2, .int a3, jx_un] [] h := rfl
theorem eb_28_0 : jx_eb d 28 0 ls st h = jx_ev d 28 [.aload 0, .invokeinterface 0 2, .aload 0, .invokeinterface 0 0, .invokevirtual 11681, .pop, .iconst 0, .istore 4, .goto_w 15] ls st h := rfl
theorem eb_28_15 : jx_eb d 28 15 ls st h = jx_ev d 28 [.iload 4, .iload 2, .if_icmp .ge 67, .aload 0, .invokeinterface 0 2, .iload 3, .iload 4, .ishr, .iconst 1, .iand, .multianewarray 1 10, .aload 0, .invokeinterface 0 2, .aload 0, .invokevirtual 110, .invokevirtual 11801, .ifCond .eq 61, .aload 0, .invokeinterface 0 2, .invokeinterface 1 8, .iload 1, .if_icmp .ne 61, .iconst 0, .freturn] ls st h := rfl
theorem eb_28_61 : jx_eb d 28 61 ls st h = jx_ev d 28 [.iinc 4 1, .goto 15] ls st h := rfl
theorem eb_28_67 : jx_eb d 28 67 ls st h = jx_ev d 28 [.iconst 1, .freturn] ls st h := rfl
theorem cr_28 {r : Nat} {a1 : Int32} {a2 : Int32} {a3 : Int32}  : jx_cr (d + 1) 28 [.ref r, .int a1, .int a2, .int a3] h = jx_eb d 28 0 [.ref r, .int a1, .int a2, .int a3, jx_un] [] h := rfl
theorem eb_29_0 : jx_eb d 29 0 ls st h = jx_ev d 29 [.aload 0, .iload 1, .invokevirtual 121, .ifCond .eq 30, .iload 2, .i2l, .jsr 1, .jsr 8, .invokestatic 13, .ifCond .eq 30, .iload 3, .i2l, .jsr 0, .jsr 1, .invokestatic 13, .ifCond .ne 32, .goto_w 30] ls st h := rfl
theorem eb_29_30 : jx_eb d 29 30 ls st h = jx_ev d 29 [.iconst (-1), .ireturn] ls st h := rfl
theorem eb_29_32 : jx_eb d 29 32 ls st h = jx_ev d 29 [.aload 0, .invokeinterface 0 2, .aload 0, .invokeinterface 0 0, .invokevirtual 11671, .pop, .iconst (-1), .istore 4, .iconst 0, .istore 5, .goto_w 50] ls st h := rfl
theorem eb_29_50 : jx_eb d 29 50 ls st h = jx_ev d 29 [.iload 5, .iconst 1, .iload 2, .ishl, .if_icmp .ge 101, .iload 4, .iconst (-1), .if_icmp .eq 80, .iload 5, .invokestatic 2271, .iload 4, .invokestatic 2271, .if_icmp .lt 80, .goto 95] ls st h := rfl
theorem eb_29_80 : jx_eb d 29 80 ls st h = jx_ev d 29 [.aload 0, .iload 1, .iload 2, .iload 5, .invokevirtual 283, .ifCond .eq 95, .iload 5, .istore 4, .goto_w 95] ls st h := rfl
theorem eb_29_95 : jx_eb d 29 95 ls st h = jx_ev d 29 [.iinc 5 1, .goto 50] ls st h := rfl
theorem eb_29_101 : jx_eb d 29 101 ls st h = jx_ev d 29 [.iload 3, .ifCond .ne 113, .iload 4, .invokestatic 2271, .goto 115] ls st h := rfl
theorem eb_29_113 : jx_eb d 29 113 ls st h = jx_ev d 29 [.iload 4, .goto_w 115] ls st h := rfl
theorem eb_29_115 : jx_eb d 29 115 ls st h = jx_ev d 29 [.ireturn] ls st h := rfl
theorem cr_29 {r : Nat} {a1 : Int32} {a2 : Int32} {a3 : Int32}  : jx_cr (d + 1) 29 [.ref r, .int a1, .int a2, .int a3] h = jx_eb d 29 0 [.ref r, .int a1, .int a2, .int a3, jx_un, jx_un] [] h := rfl
theorem eb_30_0 : jx_eb d 30 0 ls st h = jx_ev d 30 [.aload 0, .invokeinterface 0 2, .aload 0, .invokeinterface 0 0, .invokevirtual 11681, .pop, .aload 0, .invokeinterface 0 2, .iload 2, .multianewarray 1 9, .aload 0, .invokeinterface 0 2, .iload 3, .aload 0, .invokevirtual 110, .invokevirtual 11812, .iload 1, .invokevirtual 11721, .ireturn] ls st h := rfl
theorem cr_30 {r : Nat} {a1 : Int32} {a2 : Int32} {a3 : Int32}  : jx_cr (d + 1) 30 [.ref r, .int a1, .int a2, .int a3] h = jx_eb d 30 0 [.ref r, .int a1, .int a2, .int a3] [] h := rfl
theorem eb_31_0 : jx_eb d 31 0 ls st h = jx_ev d 31 [.aload 0, .iload 1, .invokevirtual 131, .ifCond .eq 30, .iload 2, .i2l, .jsr 1, .jsr 60, .invokestatic 13, .ifCond .eq 30, .iload 3, .i2l, .jsr 0, .jsr 1, .invokestatic 13, .ifCond .ne 33, .goto_w 30] ls st h := rfl
theorem eb_31_30 : jx_eb d 31 30 ls st h = jx_ev d 31 [.iconst (-2), .ireturn] ls st h := rfl
theorem eb_31_33 : jx_eb d 31 33 ls st h = jx_ev d 31 [.aload 0, .invokeinterface 0 2, .aload 0, .invokeinterface 0 0, .invokevirtual 11671, .pop, .iconst (-1), .istore 4, .aload 0, .iload 1, .iconst (-1), .iload 2, .invokevirtual 303, .istore 5, .iconst 0, .istore 6, .goto_w 60] ls st h := rfl
theorem eb_31_60 : jx_eb d 31 60 ls st h = jx_ev d 31 [.iload 6, .aload 0, .invokeinterface 0 0, .invokeinterface 1 2, .if_icmp .ge 106, .aload 0, .iload 1, .iload 6, .iload 2, .invokevirtual 303, .istore 7, .iload 7, .iload 5, .if_icmp .gt 92, .goto 100] ls st h := rfl
theorem eb_31_92 : jx_eb d 31 92 ls st h = jx_ev d 31 [.iload 6, .istore 4, .iload 7, .istore 5, .goto_w 100] ls st h := rfl
theorem eb_31_100 : jx_eb d 31 100 ls st h = jx_ev d 31 [.iinc 6 1, .goto 60] ls st h := rfl
theorem eb_31_106 : jx_eb d 31 106 ls st h = jx_ev d 31 [.iload 3, .ifCond .ne 115, .iload 4, .goto 117] ls st h := rfl
theorem eb_31_115 : jx_eb d 31 115 ls st h = jx_ev d 31 [.iload 5, .goto_w 117] ls st h := rfl
theorem eb_31_117 : jx_eb d 31 117 ls st h = jx_ev d 31 [.ireturn] ls st h := rfl
theorem cr_31 {r : Nat} {a1 : Int32} {a2 : Int32} {a3 : Int32}  : jx_cr (d + 1) 31 [.ref r, .int a1, .int a2, .int a3] h = jx_eb d 31 0 [.ref r, .int a1, .int a2, .int a3, jx_un, jx_un, jx_un, jx_un] [] h := rfl
theorem eb_32_0 : jx_eb d 32 0 ls st h = jx_ev d 32 [.aload 0, .invokeinterface 0 0, .ifnull 33, .iload 1, .i2l, .jsr 1, .jsr 100, .invokestatic 13, .ifCond .eq 33, .iload 2, .iconst 6, .if_icmp .eq 35, .aload 0, .iload 2, .invokevirtual 121, .ifCond .ne 35, .goto_w 33] ls st h := rfl
theorem eb_32_33 : jx_eb d 32 33 ls st h = jx_ev d 32 [.iconst (-1), .ireturn] ls st h := rfl
theorem eb_32_35 : jx_eb d 32 35 ls st h = jx_ev d 32 [.aload 0, .invokeinterface 0 2, .aload 0, .invokeinterface 0 0, .invokevirtual 11671, .iload 1, .aload 0, .invokevirtual 110, .invokevirtual 11812, .pop, .iload 2, .iconst 6, .if_icmp .ge 81, .aload 0, .invokeinterface 0 2, .invokeinterface 1 17, .iload 2, .iaload, .aload 0, .invokeinterface 0 0, .invokeinterface 1 17, .iload 2, .iaload, .isub, .ireturn] ls st h := rfl
theorem eb_32_81 : jx_eb d 32 81 ls st h = jx_ev d 32 [.iconst 0, .istore 3, .iconst 0, .istore 4, .goto_w 86] ls st h := rfl
theorem eb_32_86 : jx_eb d 32 86 ls st h = jx_ev d 32 [.iload 4, .aload 0, .invokeinterface 0 0, .invokeinterface 1 2, .if_icmp .ge 138, .iload 3, .aload 0, .invokeinterface 0 2, .invokeinterface 1 17, .iload 4, .iaload, .aload 0, .invokeinterface 0 0, .invokeinterface 1 17, .iload 4, .iaload, .if_icmp .ne 129, .iconst 1, .iload 4, .ishl, .goto 130] ls st h := rfl
theorem eb_32_129 : jx_eb d 32 129 ls st h = jx_ev d 32 [.iconst 0, .goto_w 130] ls st h := rfl
theorem eb_32_130 : jx_eb d 32 130 ls st h = jx_ev d 32 [.ior, .istore 3, .iinc 4 1, .goto 86] ls st h := rfl
theorem eb_32_138 : jx_eb d 32 138 ls st h = jx_ev d 32 [.iload 3, .ireturn] ls st h := rfl
theorem cr_32 {r : Nat} {a1 : Int32} {a2 : Int32}  : jx_cr (d + 1) 32 [.ref r, .int a1, .int a2] h = jx_eb d 32 0 [.ref r, .int a1, .int a2, jx_un, jx_un] [] h := rfl
theorem eb_33_0 : jx_eb d 33 0 ls st h = jx_ev d 33 [.aload 0, .iload 1, .invokevirtual 131, .ifCond .ne 10, .iconst (-1), .ireturn] ls st h := rfl
theorem eb_33_10 : jx_eb d 33 10 ls st h = jx_ev d 33 [.aload 0, .invokeinterface 0 0, .iload 1, .invokevirtual 11721, .istore 2, .iconst 0, .istore 3, .iconst 0, .istore 4, .goto_w 24] ls st h := rfl
theorem eb_33_24 : jx_eb d 33 24 ls st h = jx_ev d 33 [.iload 4, .aload 0, .invokeinterface 0 0, .invokeinterface 1 3, .if_icmp .ge 82, .iload 3, .aload 0, .invokeinterface 0 0, .iload 4, .invokevirtual 11721, .iload 2, .if_icmp .gt 69, .aload 0, .invokeinterface 0 0, .iload 4, .invokevirtual 11721, .iload 2, .if_icmp .ne 73, .iload 4, .iload 1, .if_icmp .ge 73, .goto_w 69] ls st h := rfl
theorem eb_33_69 : jx_eb d 33 69 ls st h = jx_ev d 33 [.iconst 1, .goto 74] ls st h := rfl
theorem eb_33_73 : jx_eb d 33 73 ls st h = jx_ev d 33 [.iconst 0, .goto_w 74] ls st h := rfl
theorem eb_33_74 : jx_eb d 33 74 ls st h = jx_ev d 33 [.iadd, .istore 3, .iinc 4 1, .goto 24] ls st h := rfl
theorem eb_33_82 : jx_eb d 33 82 ls st h = jx_ev d 33 [.iload 3, .ireturn] ls st h := rfl
theorem cr_33 {r : Nat} {a1 : Int32}  : jx_cr (d + 1) 33 [.ref r, .int a1] h = jx_eb d 33 0 [.ref r, .int a1, jx_un, jx_un, jx_un] [] h := rfl
theorem eb_34_0 : jx_eb d 34 0 ls st h = jx_ev d 34 [.iconst 0, .istore 3, .goto_w 2] ls st h := rfl
theorem eb_34_2 : jx_eb d 34 2 ls st h = jx_ev d 34 [.iload 3, .aload 0, .invokeinterface 0 0, .invokeinterface 1 2, .if_icmp .ge 59, .aload 0, .invokeinterface 0 0, .invokeinterface 1 19, .iload 1, .iaload, .iload 3, .invokestatic 22, .ifCond .eq 53, .aload 0, .invokeinterface 0 0, .invokeinterface 1 13, .iload 3, .iaload, .aload 0, .invokeinterface 0 0, .invokeinterface 1 19, .iload 2, .iaload, .iand, .ifCond .eq 53, .iconst 1, .freturn] ls st h := rfl
theorem eb_34_53 : jx_eb d 34 53 ls st h = jx_ev d 34 [.iinc 3 1, .goto 2] ls st h := rfl
theorem eb_34_59 : jx_eb d 34 59 ls st h = jx_ev d 34 [.iconst 0, .freturn] ls st h := rfl
theorem cr_34 {r : Nat} {a1 : Int32} {a2 : Int32}  : jx_cr (d + 1) 34 [.ref r, .int a1, .int a2] h = jx_eb d 34 0 [.ref r, .int a1, .int a2, jx_un] [] h := rfl
theorem eb_35_0 : jx_eb d 35 0 ls st h = jx_ev d 35 [.iconst 0, .istore 2, .goto_w 2] ls st h := rfl
theorem eb_35_2 : jx_eb d 35 2 ls st h = jx_ev d 35 [.iload 2, .aload 0, .invokeinterface 0 0, .invokeinterface 1 3, .if_icmp .ge 59, .iconst 0, .istore 3, .goto_w 15] ls st h := rfl
theorem eb_35_15 : jx_eb d 35 15 ls st h = jx_ev d 35 [.iload 3, .iload 2, .if_icmp .gt 53, .iload 1, .iload 2, .invokestatic 22, .ifCond .eq 47, .iload 1, .iload 3, .invokestatic 22, .ifCond .eq 47, .aload 0, .iload 2, .iload 3, .invokevirtual 342, .ifCond .eq 47, .iconst 0, .freturn] ls st h := rfl
theorem eb_35_47 : jx_eb d 35 47 ls st h = jx_ev d 35 [.iinc 3 1, .goto 15] ls st h := rfl
theorem eb_35_53 : jx_eb d 35 53 ls st h = jx_ev d 35 [.iinc 2 1, .goto 2] ls st h := rfl
theorem eb_35_59 : jx_eb d 35 59 ls st h = jx_ev d 35 [.iconst 1, .freturn] ls st h := rfl
theorem cr_35 {r : Nat} {a1 : Int32}  : jx_cr (d + 1) 35 [.ref r, .int a1] h = jx_eb d 35 0 [.ref r, .int a1, jx_un, jx_un] [] h := rfl
theorem eb_36_0 : jx_eb d 36 0 ls st h = jx_ev d 36 [.aload 0, .invokeinterface 0 0, .ifnull 17, .iload 1, .i2l, .jsr 0, .jsr 1, .invokestatic 13, .ifCond .ne 19, .goto_w 17] ls st h := rfl
theorem eb_36_17 : jx_eb d 36 17 ls st h = jx_ev d 36 [.iconst (-1), .ireturn] ls st h := rfl
theorem eb_36_19 : jx_eb d 36 19 ls st h = jx_ev d 36 [.iconst 1, .aload 0, .invokeinterface 0 0, .invokeinterface 1 3, .ishl, .iconst 1, .isub, .istore 2, .iload 2, .istore 3, .iload 2, .istore 4, .goto_w 36] ls st h := rfl
theorem eb_36_36 : jx_eb d 36 36 ls st h = jx_ev d 36 [.iload 4, .ifCond .lt 75, .iload 4, .invokestatic 2271, .iload 3, .invokestatic 2271, .if_icmp .gt 69, .aload 0, .iload 2, .iload 4, .iconst (-1), .ixor, .iand, .invokevirtual 351, .ifCond .eq 69, .iload 4, .istore 3, .goto_w 69] ls st h := rfl
theorem eb_36_69 : jx_eb d 36 69 ls st h = jx_ev d 36 [.iinc 4 (-1), .goto 36] ls st h := rfl
theorem eb_36_75 : jx_eb d 36 75 ls st h = jx_ev d 36 [.iload 1, .ifCond .ne 86, .iload 3, .invokestatic 2271, .goto 87] ls st h := rfl
theorem eb_36_86 : jx_eb d 36 86 ls st h = jx_ev d 36 [.iload 3, .goto_w 87] ls st h := rfl
theorem eb_36_87 : jx_eb d 36 87 ls st h = jx_ev d 36 [.ireturn] ls st h := rfl
theorem cr_36 {r : Nat} {a1 : Int32}  : jx_cr (d + 1) 36 [.ref r, .int a1] h = jx_eb d 36 0 [.ref r, .int a1, jx_un, jx_un, jx_un] [] h := rfl
theorem eb_37_0 : jx_eb d 37 0 ls st h = jx_ev d 37 [.aload 0, .iload 2, .invokevirtual 131, .ifCond .eq 20, .iload 1, .i2l, .jsr 0, .jsr 9999, .invokestatic 13, .ifCond .ne 22, .goto_w 20] ls st h := rfl
theorem eb_37_20 : jx_eb d 37 20 ls st h = jx_ev d 37 [.iconst (-1), .ireturn] ls st h := rfl
theorem eb_37_22 : jx_eb d 37 22 ls st h = jx_ev d 37 [.aload 0, .invokeinterface 0 0, .invokevirtual 11730, .istore 3, .iload 3, .ifCond .ne 36, .iconst 0, .ireturn] ls st h := rfl
theorem eb_37_36 : jx_eb d 37 36 ls st h = jx_ev d 37 [.iload 1, .istore 4, .iconst 0, .istore 5, .iload 1, .aload 0, .invokeinterface 0 0, .iload 2, .invokevirtual 11721, .imul, .iload 3, .irem, .istore 6, .iconst 0, .istore 7, .goto_w 59] ls st h := rfl
theorem eb_37_59 : jx_eb d 37 59 ls st h = jx_ev d 37 [.iload 7, .aload 0, .invokeinterface 0 0, .invokeinterface 1 3, .if_icmp .ge 133, .iload 1, .aload 0, .invokeinterface 0 0, .iload 7, .invokevirtual 11721, .imul, .istore 8, .iload 4, .iload 8, .iload 3, .idiv, .isub, .istore 4, .iload 5, .iload 8, .iload 3, .irem, .iload 6, .if_icmp .gt 119, .iload 8, .iload 3, .irem, .iload 6, .if_icmp .ne 123, .iload 7, .iload 2, .if_icmp .ge 123, .goto_w 119] ls st h := rfl
theorem eb_37_119 : jx_eb d 37 119 ls st h = jx_ev d 37 [.iconst 1, .goto 124] ls st h := rfl
theorem eb_37_123 : jx_eb d 37 123 ls st h = jx_ev d 37 [.iconst 0, .goto_w 124] ls st h := rfl
theorem eb_37_124 : jx_eb d 37 124 ls st h = jx_ev d 37 [.iadd, .istore 5, .iinc 7 1, .goto 59] ls st h := rfl
theorem eb_37_133 : jx_eb d 37 133 ls st h = jx_ev d 37 [.iload 1, .aload 0, .invokeinterface 0 0, .iload 2, .invokevirtual 11721, .imul, .iload 3, .idiv, .iload 5, .iload 4, .if_icmp .ge 156, .iconst 1, .goto 157] ls st h := rfl
theorem eb_37_156 : jx_eb d 37 156 ls st h = jx_ev d 37 [.iconst 0, .goto_w 157] ls st h := rfl
theorem eb_37_157 : jx_eb d 37 157 ls st h = jx_ev d 37 [.iadd, .ireturn] ls st h := rfl
theorem cr_37 {r : Nat} {a1 : Int32} {a2 : Int32}  : jx_cr (d + 1) 37 [.ref r, .int a1, .int a2] h = jx_eb d 37 0 [.ref r, .int a1, .int a2, jx_un, jx_un, jx_un, jx_un, jx_un, jx_un] [] h := rfl
theorem eb_38_0 : jx_eb d 38 0 ls st h = jx_ev d 38 [.iconst 0, .istore 3, .goto_w 2] ls st h := rfl
theorem eb_38_2 : jx_eb d 38 2 ls st h = jx_ev d 38 [.iload 3, .iconst 5, .if_icmp .ge 61, .aload 0, .invokeinterface 0 15, .iconst 5, .iload 3, .imul, .iload 2, .iadd, .iaload, .aload 0, .invokeinterface 0 15, .iconst 5, .iload 1, .imul, .iload 2, .iadd, .iaload, .if_icmp .gt 53, .aload 0, .invokeinterface 0 16, .iconst 5, .iload 1, .imul, .iload 3, .iadd, .iaload, .aload 0, .invokeinterface 0 16, .iconst 5, .iload 1, .imul, .iload 2, .iadd, .iaload, .if_icmp .le 55, .goto_w 53] ls st h := rfl
theorem eb_38_53 : jx_eb d 38 53 ls st h = jx_ev d 38 [.iconst 0, .freturn] ls st h := rfl
theorem eb_38_55 : jx_eb d 38 55 ls st h = jx_ev d 38 [.iinc 3 1, .goto 2] ls st h := rfl
theorem eb_38_61 : jx_eb d 38 61 ls st h = jx_ev d 38 [.iconst 1, .freturn] ls st h := rfl
theorem cr_38 {r : Nat} {a1 : Int32} {a2 : Int32}  : jx_cr (d + 1) 38 [.ref r, .int a1, .int a2] h = jx_eb d 38 0 [.ref r, .int a1, .int a2, jx_un] [] h := rfl
theorem eb_39_0 : jx_eb d 39 0 ls st h = jx_ev d 39 [.aload 0, .iload 1, .invokevirtual 131, .ifCond .eq 46, .aload 0, .iload 2, .invokevirtual 131, .ifCond .eq 46, .iload 1, .iload 2, .if_icmp .eq 46, .iload 3, .i2l, .jsr 1, .jsr 20, .invokestatic 13, .ifCond .eq 46, .iload 4, .i2l, .jsr 0, .jsr 2, .invokestatic 13, .ifCond .ne 48, .goto_w 46] ls st h := rfl
theorem eb_39_46 : jx_eb d 39 46 ls st h = jx_ev d 39 [.iconst (-1), .ireturn] ls st h := rfl
theorem eb_39_48 : jx_eb d 39 48 ls st h = jx_ev d 39 [.aload 0, .invokeinterface 0 2, .aload 0, .invokeinterface 0 0, .invokevirtual 11671, .pop, .iconst 0, .istore 5, .goto_w 63] ls st h := rfl
theorem eb_39_63 : jx_eb d 39 63 ls st h = jx_ev d 39 [.iload 5, .iconst 25, .if_icmp .ge 171, .aload 0, .invokeinterface 0 2, .aload 0, .invokeinterface 0 0, .invokevirtual 11681, .pop, .aload 0, .invokeinterface 0 2, .iload 1, .iconst 10, .iload 5, .iconst 5, .idiv, .imul, .invokevirtual 11762, .aload 0, .invokeinterface 0 2, .iload 2, .iconst 10, .iload 5, .iconst 5, .irem, .imul, .invokevirtual 11762, .aload 0, .invokeinterface 0 2, .iload 3, .aload 0, .invokevirtual 110, .invokevirtual 11812, .pop, .aload 0, .invokeinterface 0 15, .iload 5, .aload 0, .invokeinterface 0 2, .iload 1, .invokevirtual 11721, .iload 5, .iconst 5, .idiv, .isub, .iastore, .aload 0, .invokeinterface 0 16, .iload 5, .aload 0, .invokeinterface 0 2, .iload 2, .invokevirtual 11721, .iload 5, .iconst 5, .irem, .isub, .iastore, .iinc 5 1, .goto 63] ls st h := rfl
theorem eb_39_171 : jx_eb d 39 171 ls st h = jx_ev d 39 [.iconst 0, .istore 5, .iconst (-1), .istore 6, .iconst 24, .istore 7, .goto_w 181] ls st h := rfl
theorem eb_39_181 : jx_eb d 39 181 ls st h = jx_ev d 39 [.iload 7, .ifCond .lt 217, .aload 0, .iload 7, .iconst 5, .idiv, .iload 7, .iconst 5, .irem, .invokevirtual 382, .ifCond .ne 204, .goto 211] ls st h := rfl
theorem eb_39_204 : jx_eb d 39 204 ls st h = jx_ev d 39 [.iinc 5 1, .iload 7, .istore 6, .goto_w 211] ls st h := rfl
theorem eb_39_211 : jx_eb d 39 211 ls st h = jx_ev d 39 [.iinc 7 (-1), .goto 181] ls st h := rfl
theorem eb_39_217 : jx_eb d 39 217 ls st h = jx_ev d 39 [.iload 4, .ifCond .ne 225, .iload 5, .ireturn] ls st h := rfl
theorem eb_39_225 : jx_eb d 39 225 ls st h = jx_ev d 39 [.iload 6, .iconst (-1), .if_icmp .ne 236, .iconst (-2), .goto 259] ls st h := rfl
theorem eb_39_236 : jx_eb d 39 236 ls st h = jx_ev d 39 [.iload 4, .iconst 1, .if_icmp .ne 252, .iconst 10, .iload 6, .iconst 5, .idiv, .imul, .goto 259] ls st h := rfl
theorem eb_39_252 : jx_eb d 39 252 ls st h = jx_ev d 39 [.iconst 10, .iload 6, .iconst 5, .irem, .imul, .goto_w 259] ls st h := rfl
theorem eb_39_259 : jx_eb d 39 259 ls st h = jx_ev d 39 [.ireturn] ls st h := rfl
theorem cr_39 {r : Nat} {a1 : Int32} {a2 : Int32} {a3 : Int32} {a4 : Int32}  : jx_cr (d + 1) 39 [.ref r, .int a1, .int a2, .int a3, .int a4] h = jx_eb d 39 0 [.ref r, .int a1, .int a2, .int a3, .int a4, jx_un, jx_un, jx_un] [] h := rfl
theorem eb_40_0 : jx_eb d 40 0 ls st h = jx_ev d 40 [.iconst 0, .istore 3, .goto_w 2] ls st h := rfl
theorem eb_40_2 : jx_eb d 40 2 ls st h = jx_ev d 40 [.iload 3, .iconst 6, .if_icmp .ge 35, .aload 0, .invokeinterface 0 17, .iload 1, .iload 3, .iadd, .iaload, .aload 0, .invokeinterface 0 17, .iload 2, .iload 3, .iadd, .iaload, .if_icmp .eq 29, .iconst 0, .freturn] ls st h := rfl
theorem eb_40_29 : jx_eb d 40 29 ls st h = jx_ev d 40 [.iinc 3 1, .goto 2] ls st h := rfl
theorem eb_40_35 : jx_eb d 40 35 ls st h = jx_ev d 40 [.iconst 1, .freturn] ls st h := rfl
theorem cr_40 {r : Nat} {a1 : Int32} {a2 : Int32}  : jx_cr (d + 1) 40 [.ref r, .int a1, .int a2] h = jx_eb d 40 0 [.ref r, .int a1, .int a2, jx_un] [] h := rfl
theorem eb_41_0 : jx_eb d 41 0 ls st h = jx_ev d 41 [.aload 0, .invokeinterface 0 0, .ifnull 17, .iload 1, .i2l, .jsr 0, .jsr 1, .invokestatic 13, .ifCond .ne 19, .goto_w 17] ls st h := rfl
theorem eb_41_17 : jx_eb d 41 17 ls st h = jx_ev d 41 [.iconst (-1), .ireturn] ls st h := rfl
theorem eb_41_19 : jx_eb d 41 19 ls st h = jx_ev d 41 [.aload 0, .invokeinterface 0 2, .aload 0, .invokeinterface 0 0, .invokevirtual 11671, .pop, .iconst 0, .istore 2, .goto_w 33] ls st h := rfl
theorem eb_41_33 : jx_eb d 41 33 ls st h = jx_ev d 41 [.iload 2, .iconst 66, .if_icmp .ge 70, .aload 0, .invokeinterface 0 2, .aload 0, .invokevirtual 110, .invokevirtual 11801, .pop, .aload 0, .invokeinterface 0 17, .iload 2, .aload 0, .invokeinterface 0 2, .invokeinterface 1 8, .iastore, .iinc 2 1, .goto 33] ls st h := rfl
theorem eb_41_70 : jx_eb d 41 70 ls st h = jx_ev d 41 [.iconst 0, .istore 2, .goto_w 72] ls st h := rfl
theorem eb_41_72 : jx_eb d 41 72 ls st h = jx_ev d 41 [.iload 2, .iconst 60, .if_icmp .ge 129, .iload 2, .iconst 1, .iadd, .istore 3, .goto_w 82] ls st h := rfl
theorem eb_41_82 : jx_eb d 41 82 ls st h = jx_ev d 41 [.iload 3, .iconst 60, .if_icmp .gt 123, .aload 0, .iload 2, .iload 3, .invokevirtual 402, .ifCond .eq 117, .iload 1, .ifCond .ne 113, .aload 0, .invokeinterface 0 0, .invokeinterface 1 7, .iload 2, .iadd, .goto 116] ls st h := rfl
theorem eb_41_113 : jx_eb d 41 113 ls st h = jx_ev d 41 [.iload 3, .iload 2, .isub, .goto_w 116] ls st h := rfl
theorem eb_41_116 : jx_eb d 41 116 ls st h = jx_ev d 41 [.ireturn] ls st h := rfl
theorem eb_41_117 : jx_eb d 41 117 ls st h = jx_ev d 41 [.iinc 3 1, .goto 82] ls st h := rfl
theorem eb_41_123 : jx_eb d 41 123 ls st h = jx_ev d 41 [.iinc 2 1, .goto 72] ls st h := rfl
theorem eb_41_129 : jx_eb d 41 129 ls st h = jx_ev d 41 [.iconst (-2), .ireturn] ls st h := rfl
theorem cr_41 {r : Nat} {a1 : Int32}  : jx_cr (d + 1) 41 [.ref r, .int a1] h = jx_eb d 41 0 [.ref r, .int a1, jx_un, jx_un] [] h := rfl
theorem eb_42_0 : jx_eb d 42 0 ls st h = jx_ev d 42 [.iload 1, .iconst (-1), .if_icmp .ne 22, .aload 0, .invokeinterface 0 0, .ifnull 20, .aload 0, .invokeinterface 0 0, .iconst 0, .multianewarray 1 4, .goto_w 20] ls st h := rfl
theorem eb_42_20 : jx_eb d 42 20 ls st h = jx_ev d 42 [.iconst 0, .ireturn] ls st h := rfl
theorem eb_42_22 : jx_eb d 42 22 ls st h = jx_ev d 42 [.aload 0, .invokeinterface 0 0, .ifnull 66, .iload 1, .i2l, .jsr 0, .jsr 60, .invokestatic 13, .ifCond .eq 66, .iload 2, .iconst (-1), .if_icmp .eq 54, .aload 0, .iload 2, .invokevirtual 121, .ifCond .eq 66, .goto_w 54] ls st h := rfl
theorem eb_42_54 : jx_eb d 42 54 ls st h = jx_ev d 42 [.aload 0, .invokeinterface 0 0, .invokeinterface 1 4, .iconst 10, .if_icmp .ne 69, .goto_w 66] ls st h := rfl
theorem eb_42_66 : jx_eb d 42 66 ls st h = jx_ev d 42 [.iconst (-2), .ireturn] ls st h := rfl
theorem eb_42_69 : jx_eb d 42 69 ls st h = jx_ev d 42 [.aload 0, .invokeinterface 0 0, .invokeinterface 1 16, .iconst 2, .aload 0, .invokeinterface 0 0, .invokeinterface 1 4, .imul, .iload 1, .iastore, .aload 0, .invokeinterface 0 0, .invokeinterface 1 16, .iconst 2, .aload 0, .invokeinterface 0 0, .invokeinterface 1 4, .imul, .iconst 1, .iadd, .iload 2, .iastore, .aload 0, .invokeinterface 0 0, .dup, .invokeinterface 1 4, .iconst 1, .iadd, .multianewarray 1 4, .aload 0, .invokeinterface 0 0, .invokeinterface 1 4, .ireturn] ls st h := rfl
theorem cr_42 {r : Nat} {a1 : Int32} {a2 : Int32}  : jx_cr (d + 1) 42 [.ref r, .int a1, .int a2] h = jx_eb d 42 0 [.ref r, .int a1, .int a2] [] h := rfl
theorem eb_43_0 : jx_eb d 43 0 ls st h = jx_ev d 43 [.aload 0, .invokeinterface 0 19, .iconst 61, .iload 1, .imul, .iload 2, .iadd, .iaload, .ireturn] ls st h := rfl
theorem cr_43 {r : Nat} {a1 : Int32} {a2 : Int32}  : jx_cr (d + 1) 43 [.ref r, .int a1, .int a2] h = jx_eb d 43 0 [.ref r, .int a1, .int a2] [] h := rfl
theorem eb_44_0 : jx_eb d 44 0 ls st h = jx_ev d 44 [.iconst 0, .istore 2, .goto_w 2] ls st h := rfl
theorem eb_44_2 : jx_eb d 44 2 ls st h = jx_ev d 44 [.iload 2, .iconst 2, .aload 0, .invokeinterface 0 0, .invokeinterface 1 4, .imul, .if_icmp .ge 51, .aload 0, .iload 1, .aload 0, .invokeinterface 0 0, .invokeinterface 1 16, .iload 2, .iaload, .invokevirtual 432, .aload 0, .invokeinterface 0 0, .invokeinterface 1 16, .iload 2, .iconst 1, .iadd, .iaload, .if_icmp .eq 45, .iconst 0, .freturn] ls st h := rfl
theorem eb_44_45 : jx_eb d 44 45 ls st h = jx_ev d 44 [.iinc 2 2, .goto 2] ls st h := rfl
theorem eb_44_51 : jx_eb d 44 51 ls st h = jx_ev d 44 [.iconst 1, .freturn] ls st h := rfl
theorem cr_44 {r : Nat} {a1 : Int32}  : jx_cr (d + 1) 44 [.ref r, .int a1] h = jx_eb d 44 0 [.ref r, .int a1, jx_un] [] h := rfl
theorem eb_45_0 : jx_eb d 45 0 ls st h = jx_ev d 45 [.aload 0, .invokeinterface 0 2, .aload 0, .invokeinterface 0 0, .invokevirtual 11671, .pop, .iconst 0, .istore 1, .goto_w 14] ls st h := rfl
theorem eb_45_14 : jx_eb d 45 14 ls st h = jx_ev d 45 [.iload 1, .aload 0, .invokeinterface 0 14, .if_icmp .gt 102, .aload 0, .invokeinterface 0 2, .invokevirtual 11710, .iconst 0, .istore 2, .goto_w 31] ls st h := rfl
theorem eb_45_31 : jx_eb d 45 31 ls st h = jx_ev d 45 [.iload 2, .iconst 60, .if_icmp .gt 85, .aload 0, .invokeinterface 0 2, .iload 1, .ifCond .ne 49, .aconst_null, .goto 57] ls st h := rfl
theorem eb_45_49 : jx_eb d 45 49 ls st h = jx_ev d 45 [.aload 0, .invokeinterface 0 13, .iload 1, .iconst 1, .isub, .aaload, .goto_w 57] ls st h := rfl
theorem eb_45_57 : jx_eb d 45 57 ls st h = jx_ev d 45 [.invokevirtual 11801, .pop, .aload 0, .invokeinterface 0 19, .iconst 61, .iload 1, .imul, .iload 2, .iadd, .aload 0, .invokeinterface 0 2, .invokeinterface 1 8, .iastore, .iinc 2 1, .goto 31] ls st h := rfl
theorem eb_45_85 : jx_eb d 45 85 ls st h = jx_ev d 45 [.aload 0, .invokeinterface 0 18, .iload 1, .aload 0, .iload 1, .invokevirtual 441, .bastore, .iinc 1 1, .goto 14] ls st h := rfl
theorem eb_45_102 : jx_eb d 45 102 ls st h = jx_ev d 45 [.return_] ls st h := rfl
theorem cr_45 {r : Nat}  : jx_cr (d + 1) 45 [.ref r] h = jx_eb d 45 0 [.ref r, jx_un, jx_un] [] h := rfl
theorem eb_46_0 : jx_eb d 46 0 ls st h = jx_ev d 46 [.aload 0, .invokeinterface 0 0, .ifnull 17, .iload 1, .i2l, .jsr 0, .jsr 1, .invokestatic 13, .ifCond .ne 20, .goto_w 17] ls st h := rfl
theorem eb_46_17 : jx_eb d 46 17 ls st h = jx_ev d 46 [.iconst (-3), .ireturn] ls st h := rfl
theorem eb_46_20 : jx_eb d 46 20 ls st h = jx_ev d 46 [.aload 0, .invokevirtual 450, .iconst 0, .istore 2, .iconst (-2), .istore 3, .aload 0, .invokeinterface 0 14, .istore 4, .goto_w 35] ls st h := rfl
theorem eb_46_35 : jx_eb d 46 35 ls st h = jx_ev d 46 [.iload 4, .ifCond .lt 67, .aload 0, .invokeinterface 0 18, .iload 4, .baload, .ifCond .ne 53, .goto 61] ls st h := rfl
theorem eb_46_53 : jx_eb d 46 53 ls st h = jx_ev d 46 [.iinc 2 1, .iload 4, .iconst 1, .isub, .istore 3, .goto_w 61] ls st h := rfl
theorem eb_46_61 : jx_eb d 46 61 ls st h = jx_ev d 46 [.iinc 4 (-1), .goto 35] ls st h := rfl
theorem eb_46_67 : jx_eb d 46 67 ls st h = jx_ev d 46 [.iload 1, .ifCond .ne 75, .iload 2, .goto 76] ls st h := rfl
theorem eb_46_75 : jx_eb d 46 75 ls st h = jx_ev d 46 [.iload 3, .goto_w 76] ls st h := rfl
theorem eb_46_76 : jx_eb d 46 76 ls st h = jx_ev d 46 [.ireturn] ls st h := rfl
theorem cr_46 {r : Nat} {a1 : Int32}  : jx_cr (d + 1) 46 [.ref r, .int a1] h = jx_eb d 46 0 [.ref r, .int a1, jx_un, jx_un, jx_un] [] h := rfl
theorem eb_47_0 : jx_eb d 47 0 ls st h = jx_ev d 47 [.iconst 0, .istore 2, .iconst (-1), .istore 3, .goto_w 4] ls st h := rfl
theorem eb_47_4 : jx_eb d 47 4 ls st h = jx_ev d 47 [.iload 3, .aload 0, .invokeinterface 0 0, .invokeinterface 1 2, .if_icmp .ge 80, .iconst 0, .istore 4, .iconst 0, .istore 5, .goto_w 21] ls st h := rfl
theorem eb_47_21 : jx_eb d 47 21 ls st h = jx_ev d 47 [.iload 5, .aload 0, .invokeinterface 0 14, .if_icmp .gt 67, .iload 4, .aload 0, .invokeinterface 0 18, .iload 5, .baload, .ifCond .eq 57, .aload 0, .iload 5, .iload 1, .invokevirtual 432, .iload 3, .if_icmp .ne 57, .iconst 1, .goto 58] ls st h := rfl
theorem eb_47_57 : jx_eb d 47 57 ls st h = jx_ev d 47 [.iconst 0, .goto_w 58] ls st h := rfl
theorem eb_47_58 : jx_eb d 47 58 ls st h = jx_ev d 47 [.iadd, .istore 4, .iinc 5 1, .goto 21] ls st h := rfl
theorem eb_47_67 : jx_eb d 47 67 ls st h = jx_ev d 47 [.iload 2, .iload 4, .swap, .istore 2, .iinc 3 1, .goto 4] ls st h := rfl
theorem eb_47_80 : jx_eb d 47 80 ls st h = jx_ev d 47 [.iload 2, .ireturn] ls st h := rfl
theorem cr_47 {r : Nat} {a1 : Int32}  : jx_cr (d + 1) 47 [.ref r, .int a1] h = jx_eb d 47 0 [.ref r, .int a1, jx_un, jx_un, jx_un, jx_un] [] h := rfl
theorem eb_48_0 : jx_eb d 48 0 ls st h = jx_ev d 48 [.aload 0, .invokeinterface 0 0, .ifnull 17, .iload 1, .i2l, .jsr 0, .jsr 1, .invokestatic 13, .ifCond .ne 19, .goto_w 17] ls st h := rfl
theorem eb_48_17 : jx_eb d 48 17 ls st h = jx_ev d 48 [.iconst (-1), .ireturn] ls st h := rfl
theorem eb_48_19 : jx_eb d 48 19 ls st h = jx_ev d 48 [.aload 0, .invokevirtual 450, .iconst 0, .istore 2, .iconst 1, .istore 3, .goto_w 27] ls st h := rfl
theorem eb_48_27 : jx_eb d 48 27 ls st h = jx_ev d 48 [.iload 3, .iconst 60, .if_icmp .gt 54, .aload 0, .iload 3, .invokevirtual 471, .aload 0, .iload 2, .invokevirtual 471, .if_icmp .ge 48, .iload 3, .istore 2, .goto_w 48] ls st h := rfl
theorem eb_48_48 : jx_eb d 48 48 ls st h = jx_ev d 48 [.iinc 3 1, .goto 27] ls st h := rfl
theorem eb_48_54 : jx_eb d 48 54 ls st h = jx_ev d 48 [.aload 0, .iload 2, .invokevirtual 471, .ifCond .ne 67, .iconst (-2), .goto 80] ls st h := rfl
theorem eb_48_67 : jx_eb d 48 67 ls st h = jx_ev d 48 [.iload 1, .ifCond .ne 75, .iload 2, .goto 80] ls st h := rfl
theorem eb_48_75 : jx_eb d 48 75 ls st h = jx_ev d 48 [.aload 0, .iload 2, .invokevirtual 471, .goto_w 80] ls st h := rfl
theorem eb_48_80 : jx_eb d 48 80 ls st h = jx_ev d 48 [.ireturn] ls st h := rfl
theorem cr_48 {r : Nat} {a1 : Int32}  : jx_cr (d + 1) 48 [.ref r, .int a1] h = jx_eb d 48 0 [.ref r, .int a1, jx_un, jx_un] [] h := rfl
theorem eb_49_0 : jx_eb d 49 0 ls st h = jx_ev d 49 [.iload 1, .ifCond .ge 6, .iconst (-1), .ireturn] ls st h := rfl
theorem eb_49_6 : jx_eb d 49 6 ls st h = jx_ev d 49 [.aload 0, .invokeinterface 0 5, .istore 2, .aload 0, .iload 1, .multianewarray 0 5, .iload 2, .ireturn] ls st h := rfl
theorem cr_49 {r : Nat} {a1 : Int32}  : jx_cr (d + 1) 49 [.ref r, .int a1] h = jx_eb d 49 0 [.ref r, .int a1, jx_un] [] h := rfl
theorem eb_50_0 : jx_eb d 50 0 ls st h = jx_ev d 50 [.aload 0, .aload 0, .invokeinterface 0 20, .i2l, .jsr 1103515245, .lmul, .jsr 12345, .ladd, .jsr 2147483648, .lrem, .l2i, .multianewarray 0 20, .aload 0, .invokeinterface 0 20, .iconst 65536, .idiv, .iload 1, .irem, .ireturn] ls st h := rfl
theorem cr_50 {r : Nat} {a1 : Int32}  : jx_cr (d + 1) 50 [.ref r, .int a1] h = jx_eb d 50 0 [.ref r, .int a1] [] h := rfl
theorem eb_51_0 : jx_eb d 51 0 ls st h = jx_ev d 51 [.aload 0, .iconst 100, .invokevirtual 501, .iload 1, .if_icmp .ge 24, .aload 0, .invokeinterface 0 0, .invokeinterface 1 2, .ifCond .le 24, .iconst 1, .goto 25] ls st h := rfl
theorem eb_51_24 : jx_eb d 51 24 ls st h = jx_ev d 51 [.iconst 0, .goto_w 25] ls st h := rfl
theorem eb_51_25 : jx_eb d 51 25 ls st h = jx_ev d 51 [.istore 2, .iload 2, .ifCond .eq 48, .aload 0, .invokeinterface 0 2, .aload 0, .aload 0, .invokeinterface 0 0, .invokeinterface 1 2, .invokevirtual 501, .multianewarray 1 9, .goto_w 48] ls st h := rfl
theorem eb_51_48 : jx_eb d 51 48 ls st h = jx_ev d 51 [.aload 0, .invokeinterface 0 2, .aload 0, .invokevirtual 110, .invokevirtual 11801, .istore 3, .aload 0, .invokeinterface 0 2, .invokeinterface 1 8, .iconst (-1), .if_icmp .ne 75, .iconst 0, .goto 79] ls st h := rfl
theorem eb_51_75 : jx_eb d 51 75 ls st h = jx_ev d 51 [.iload 3, .invokestatic 2271, .goto_w 79] ls st h := rfl
theorem eb_51_79 : jx_eb d 51 79 ls st h = jx_ev d 51 [.ireturn] ls st h := rfl
theorem cr_51 {r : Nat} {a1 : Int32}  : jx_cr (d + 1) 51 [.ref r, .int a1] h = jx_eb d 51 0 [.ref r, .int a1, jx_un, jx_un] [] h := rfl
theorem eb_52_0 : jx_eb d 52 0 ls st h = jx_ev d 52 [.aload 0, .invokeinterface 0 0, .ifnull 54, .iload 1, .i2l, .jsr 1, .jsr 10, .invokestatic 13, .ifCond .eq 54, .iload 2, .i2l, .jsr 1, .jsr 60, .invokestatic 13, .ifCond .eq 54, .iload 3, .i2l, .jsr 0, .jsr 100, .invokestatic 13, .ifCond .eq 54, .iload 4, .i2l, .jsr 0, .jsr 1, .invokestatic 13, .ifCond .ne 56, .goto_w 54] ls st h := rfl
theorem eb_52_54 : jx_eb d 52 54 ls st h = jx_ev d 52 [.iconst (-1), .ireturn] ls st h := rfl
theorem eb_52_56 : jx_eb d 52 56 ls st h = jx_ev d 52 [.aload 0, .aload 0, .invokeinterface 0 5, .multianewarray 0 20, .iconst 0, .istore 5, .iconst 0, .istore 6, .aload 0, .invokeinterface 0 2, .aload 0, .invokeinterface 0 0, .invokevirtual 11671, .pop, .iconst 0, .istore 7, .goto_w 85] ls st h := rfl
theorem eb_52_85 : jx_eb d 52 85 ls st h = jx_ev d 52 [.iload 7, .iload 1, .if_icmp .ge 146, .aload 0, .invokeinterface 0 2, .aload 0, .invokeinterface 0 0, .invokevirtual 11681, .pop, .iconst 0, .istore 8, .goto_w 106] ls st h := rfl
theorem eb_52_106 : jx_eb d 52 106 ls st h = jx_ev d 52 [.iload 8, .iload 2, .if_icmp .ge 128, .iload 5, .aload 0, .iload 3, .invokevirtual 511, .iadd, .istore 5, .iinc 8 1, .goto 106] ls st h := rfl
theorem eb_52_128 : jx_eb d 52 128 ls st h = jx_ev d 52 [.iload 6, .aload 0, .invokeinterface 0 2, .invokevirtual 11730, .iadd, .istore 6, .iinc 7 1, .goto 85] ls st h := rfl
theorem eb_52_146 : jx_eb d 52 146 ls st h = jx_ev d 52 [.iload 4, .ifCond .ne 156, .iload 5, .goto 158] ls st h := rfl
theorem eb_52_156 : jx_eb d 52 156 ls st h = jx_ev d 52 [.iload 6, .goto_w 158] ls st h := rfl
theorem eb_52_158 : jx_eb d 52 158 ls st h = jx_ev d 52 [.ireturn] ls st h := rfl
theorem cr_52 {r : Nat} {a1 : Int32} {a2 : Int32} {a3 : Int32} {a4 : Int32}  : jx_cr (d + 1) 52 [.ref r, .int a1, .int a2, .int a3, .int a4] h = jx_eb d 52 0 [.ref r, .int a1, .int a2, .int a3, .int a4, jx_un, jx_un, jx_un, jx_un] [] h := rfl
theorem eb_53_0 : jx_eb d 53 0 ls st h = jx_ev d 53 [.iload 1, .lookupswitch 64 #[(4, 44), (5, 49), (13, 54), (14, 59)]] ls st h := rfl
theorem eb_53_44 : jx_eb d 53 44 ls st h = jx_ev d 53 [.aload 0, .invokeinterface 0 14, .ireturn] ls st h := rfl
theorem eb_53_49 : jx_eb d 53 49 ls st h = jx_ev d 53 [.aload 0, .invokeinterface 0 6, .ireturn] ls st h := rfl
theorem eb_53_54 : jx_eb d 53 54 ls st h = jx_ev d 53 [.aload 0, .invokeinterface 0 5, .ireturn] ls st h := rfl
theorem eb_53_59 : jx_eb d 53 59 ls st h = jx_ev d 53 [.aload 0, .invokeinterface 0 9, .ireturn] ls st h := rfl
theorem eb_53_64 : jx_eb d 53 64 ls st h = jx_ev d 53 [.iload 1, .i2l, .jsr 0, .jsr 14, .invokestatic 13, .ifCond .ne 78, .iconst (-1), .ireturn] ls st h := rfl
theorem eb_53_78 : jx_eb d 53 78 ls st h = jx_ev d 53 [.aload 0, .invokeinterface 0 0, .ifnonnull 103, .iload 1, .iconst 7, .if_icmp .eq 97, .iload 1, .iconst 8, .if_icmp .ne 101, .goto_w 97] ls st h := rfl
theorem eb_53_97 : jx_eb d 53 97 ls st h = jx_ev d 53 [.iconst (-1), .goto 102] ls st h := rfl
theorem eb_53_101 : jx_eb d 53 101 ls st h = jx_ev d 53 [.iconst 0, .goto_w 102] ls st h := rfl
theorem eb_53_102 : jx_eb d 53 102 ls st h = jx_ev d 53 [.ireturn] ls st h := rfl
theorem eb_53_103 : jx_eb d 53 103 ls st h = jx_ev d 53 [.iload 1, .tableswitch 248 0 11 #[168, 176, 184, 192, 248, 248, 200, 208, 216, 224, 232, 240]] ls st h := rfl
theorem eb_53_168 : jx_eb d 53 168 ls st h = jx_ev d 53 [.aload 0, .invokeinterface 0 0, .invokeinterface 1 0, .ireturn] ls st h := rfl
theorem eb_53_176 : jx_eb d 53 176 ls st h = jx_ev d 53 [.aload 0, .invokeinterface 0 0, .invokeinterface 1 1, .ireturn] ls st h := rfl
theorem eb_53_184 : jx_eb d 53 184 ls st h = jx_ev d 53 [.aload 0, .invokeinterface 0 0, .invokeinterface 1 2, .ireturn] ls st h := rfl
theorem eb_53_192 : jx_eb d 53 192 ls st h = jx_ev d 53 [.aload 0, .invokeinterface 0 0, .invokeinterface 1 3, .ireturn] ls st h := rfl
theorem eb_53_200 : jx_eb d 53 200 ls st h = jx_ev d 53 [.aload 0, .invokeinterface 0 0, .invokeinterface 1 7, .ireturn] ls st h := rfl
theorem eb_53_208 : jx_eb d 53 208 ls st h = jx_ev d 53 [.aload 0, .invokeinterface 0 0, .invokeinterface 1 8, .ireturn] ls st h := rfl
theorem eb_53_216 : jx_eb d 53 216 ls st h = jx_ev d 53 [.aload 0, .invokeinterface 0 0, .invokeinterface 1 9, .ireturn] ls st h := rfl
theorem eb_53_224 : jx_eb d 53 224 ls st h = jx_ev d 53 [.aload 0, .invokeinterface 0 0, .invokeinterface 1 10, .ireturn] ls st h := rfl
theorem eb_53_232 : jx_eb d 53 232 ls st h = jx_ev d 53 [.aload 0, .invokeinterface 0 0, .invokevirtual 11750, .ireturn] ls st h := rfl
theorem eb_53_240 : jx_eb d 53 240 ls st h = jx_ev d 53 [.aload 0, .invokeinterface 0 0, .invokeinterface 1 4, .ireturn] ls st h := rfl
theorem eb_53_248 : jx_eb d 53 248 ls st h = jx_ev d 53 [.aload 0, .invokeinterface 0 0, .invokeinterface 1 5, .ireturn] ls st h := rfl
theorem cr_53 {r : Nat} {a1 : Int32}  : jx_cr (d + 1) 53 [.ref r, .int a1] h = jx_eb d 53 0 [.ref r, .int a1] [] h := rfl
theorem eb_54_0 : jx_eb d 54 0 ls st h = jx_ev d 54 [.iload 1, .i2l, .jsr 0, .jsr 3, .invokestatic 13, .ifCond .ne 14, .iconst (-1), .ireturn] ls st h := rfl
theorem eb_54_14 : jx_eb d 54 14 ls st h = jx_ev d 54 [.aload 0, .invokeinterface 0 21, .iload 1, .aaload, .ifnonnull 36, .aload 0, .invokeinterface 0 21, .iload 1, .new 15, .dup, .invokespecial 1830, .aastore, .goto_w 36] ls st h := rfl
theorem eb_54_36 : jx_eb d 54 36 ls st h = jx_ev d 54 [.aload 0, .invokeinterface 0 21, .iload 1, .aaload, .astore 2, .aload 2, .aload 0, .invokeinterface 0 0, .ifnull 55, .iconst 1, .goto 56] ls st h := rfl
theorem eb_54_55 : jx_eb d 54 55 ls st h = jx_ev d 54 [.iconst 0, .goto_w 56] ls st h := rfl
theorem eb_54_56 : jx_eb d 54 56 ls st h = jx_ev d 54 [.multianewarray 15 301, .aload 2, .aload 0, .invokeinterface 0 5, .multianewarray 15 2, .aload 2, .aload 0, .invokeinterface 0 6, .multianewarray 15 3, .aload 0, .invokeinterface 0 0, .ifnonnull 84, .iconst 0, .ireturn] ls st h := rfl
theorem eb_54_84 : jx_eb d 54 84 ls st h = jx_ev d 54 [.aload 2, .invokeinterface 15 0, .aload 0, .invokeinterface 0 0, .invokevirtual 11671, .pop, .aload 0, .invokeinterface 0 0, .invokeinterface 1 7, .ireturn] ls st h := rfl
theorem cr_54 {r : Nat} {a1 : Int32}  : jx_cr (d + 1) 54 [.ref r, .int a1] h = jx_eb d 54 0 [.ref r, .int a1, jx_un] [] h := rfl
theorem eb_55_0 : jx_eb d 55 0 ls st h = jx_ev d 55 [.iload 1, .i2l, .jsr 0, .jsr 3, .invokestatic 13, .ifCond .eq 21, .aload 0, .invokeinterface 0 21, .iload 1, .aaload, .ifnonnull 23, .goto_w 21] ls st h := rfl
theorem eb_55_21 : jx_eb d 55 21 ls st h = jx_ev d 55 [.iconst (-1), .ireturn] ls st h := rfl
theorem eb_55_23 : jx_eb d 55 23 ls st h = jx_ev d 55 [.aload 0, .aload 0, .invokeinterface 0 21, .iload 1, .aaload, .invokeinterface 15 1, .ifCond .eq 55, .aload 0, .invokeinterface 0 1, .aload 0, .invokeinterface 0 21, .iload 1, .aaload, .invokeinterface 15 0, .invokevirtual 11671, .goto 56] ls st h := rfl
theorem eb_55_55 : jx_eb d 55 55 ls st h = jx_ev d 55 [.aconst_null, .goto_w 56] ls st h := rfl
theorem eb_55_56 : jx_eb d 55 56 ls st h = jx_ev d 55 [.multianewarray 0 200, .aload 0, .aload 0, .invokeinterface 0 21, .iload 1, .aaload, .invokeinterface 15 2, .multianewarray 0 5, .aload 0, .aload 0, .invokeinterface 0 21, .iload 1, .aaload, .invokeinterface 15 3, .multianewarray 0 6, .aload 0, .invokeinterface 0 0, .ifnonnull 96, .iconst 0, .goto 103] ls st h := rfl
theorem eb_55_96 : jx_eb d 55 96 ls st h = jx_ev d 55 [.aload 0, .invokeinterface 0 0, .invokeinterface 1 7, .goto_w 103] ls st h := rfl
theorem eb_55_103 : jx_eb d 55 103 ls st h = jx_ev d 55 [.ireturn] ls st h := rfl
theorem cr_55 {r : Nat} {a1 : Int32}  : jx_cr (d + 1) 55 [.ref r, .int a1] h = jx_eb d 55 0 [.ref r, .int a1] [] h := rfl
theorem eb_56_0 : jx_eb d 56 0 ls st h = jx_ev d 56 [.aload 0, .monitorenter, .aload 0, .iconst 11, .newarray .int, .dup, .iconst 0, .iconst 0, .iastore, .dup, .iconst 1, .iconst 0, .iastore, .dup, .iconst 2, .iconst 0, .iastore, .dup, .iconst 3, .iconst 0, .iastore, .dup, .iconst 4, .iconst 0, .iastore, .dup, .iconst 5, .iconst (-1), .iastore, .dup, .iconst 6, .iconst (-1), .iastore, .dup, .iconst 7, .iconst 0, .iastore, .dup, .iconst 8, .iconst 0, .iastore, .dup, .iconst 9, .iconst 0, .iastore, .dup, .iconst 10, .iconst (-1), .iastore, .multianewarray 3 201, .aload 0, .iconst 6, .newarray .int, .multianewarray 3 202, .aload 0, .iconst 6, .newarray .int, .multianewarray 3 203, .aload 0, .iconst 6, .newarray .int, .multianewarray 3 204, .aload 0, .iconst 12, .newarray .int, .multianewarray 3 205, .aload 0, .iconst 6, .newarray .int, .multianewarray 3 206, .aload 0, .iconst 6, .newarray .int, .multianewarray 3 207, .aload 0, .iconst 6, .newarray .int, .multianewarray 3 208, .aload 0, .iconst 6, .newarray .int, .multianewarray 3 209, .aload 0, .iconst 10, .newarray .int, .multianewarray 3 210, .aload 0, .iconst 10, .newarray .int, .multianewarray 3 211, .aload 0, .iconst 6, .newarray .int, .multianewarray 3 212, .aload 0, .iconst 4, .newarray .int, .multianewarray 3 213, .aload 0, .iconst 6, .newarray .int, .multianewarray 3 214, .aload 0, .iconst 6, .newarray .int, .multianewarray 3 215, .aload 0, .iconst 12, .newarray .int, .multianewarray 3 216, .aload 0, .iconst 6, .newarray .int, .multianewarray 3 217, .aload 0, .iconst 6, .newarray .int, .multianewarray 3 218, .aload 0, .iconst 12, .multianewarray 3 28, .aload 0, .iconst 400, .newarray .byte, .multianewarray 3 229, .aload 0, .iconst 1800, .newarray .int, .multianewarray 3 230, .aload 0, .iconst 1800, .newarray .int, .multianewarray 3 231, .aload 0, .iconst 6, .newarray .int, .multianewarray 3 232, .aload 0, .iconst 72, .newarray .int, .multianewarray 3 233, .aload 0, .iconst 72, .newarray .int, .multianewarray 3 234, .aload 0, .iconst 72, .newarray .int, .multianewarray 3 235, .aload 0, .iconst 402, .newarray .int, .multianewarray 3 236, .aload 0, .iconst 12, .newarray .long, .multianewarray 3 237, .aload 0, .iconst 300, .newarray .long, .multianewarray 3 238, .aload 0, .iconst 560, .newarray .int, .multianewarray 3 239, .aload 0, .iconst 1, .newarray .int, .multianewarray 3 240, .aload 0, .iconst 6, .newarray .int, .multianewarray 3 244, .aload 0, .iconst 25, .newarray .int, .multianewarray 3 245, .aload 0, .iconst 25, .newarray .int, .multianewarray 3 246, .aload 0, .iconst 66, .newarray .int, .multianewarray 3 247, .aload 0, .iconst 427, .newarray .int, .multianewarray 3 248, .aload 0, .iconst 3500, .newarray .int, .multianewarray 3 249, .aload 0, .iconst 4, .newarray .boolean, .multianewarray 3 250, .return_] ls st h := rfl
theorem cr_56 {r : Nat}  : jx_cr (d + 1) 56 [.ref r] h = jx_eb d 56 0 [.ref r] [] h := rfl
theorem eb_57_0 : jx_eb d 57 0 ls st h = jx_ev d 57 [.lload 0, .lload 2, .lcmp, .ifCond .lt 17, .lload 0, .lload 4, .lcmp, .ifCond .gt 17, .iconst 1, .goto 18] ls st h := rfl
theorem eb_57_17 : jx_eb d 57 17 ls st h = jx_ev d 57 [.iconst 0, .goto_w 18] ls st h := rfl
theorem eb_57_18 : jx_eb d 57 18 ls st h = jx_ev d 57 [.freturn] ls st h := rfl
theorem cr_57 {a1 : Int64} {a2 : Int64} {a3 : Int64}  : jx_cr (d + 1) 57 [.long a1, .long a2, .long a3] h = jx_eb d 57 0 [.long a1, jx_sn, .long a2, jx_sn, .long a3, jx_sn] [] h := rfl
theorem eb_58_0 : jx_eb d 58 0 ls st h = jx_ev d 58 [.iconst 0, .istore 1, .iconst 0, .istore 2, .goto_w 4] ls st h := rfl
theorem eb_58_4 : jx_eb d 58 4 ls st h = jx_ev d 58 [.iload 2, .iconst 16, .if_icmp .ge 24, .iload 1, .iload 0, .iload 2, .ishr, .iconst 1, .iand, .iadd, .istore 1, .iinc 2 1, .goto 4] ls st h := rfl
theorem eb_58_24 : jx_eb d 58 24 ls st h = jx_ev d 58 [.iload 1, .ireturn] ls st h := rfl
theorem cr_58 {a1 : Int32}  : jx_cr (d + 1) 58 [.int a1] h = jx_eb d 58 0 [.int a1, jx_un, jx_un] [] h := rfl
theorem eb_59_0 : jx_eb d 59 0 ls st h = jx_ev d 59 [.iload 0, .iload 1, .ishr, .iconst 1, .iand, .iconst 1, .if_icmp .ne 13, .iconst 1, .goto 14] ls st h := rfl
theorem eb_59_13 : jx_eb d 59 13 ls st h = jx_ev d 59 [.iconst 0, .goto_w 14] ls st h := rfl
theorem eb_59_14 : jx_eb d 59 14 ls st h = jx_ev d 59 [.freturn] ls st h := rfl
theorem cr_59 {a1 : Int32} {a2 : Int32}  : jx_cr (d + 1) 59 [.int a1, .int a2] h = jx_eb d 59 0 [.int a1, .int a2] [] h := rfl
theorem eb_60_0 : jx_eb d 60 0 ls st h = jx_ev d 60 [.aload 0, .invokeinterface 3 1, .iconst 0, .iaload, .ifCond .le 13, .iconst 1, .goto 14] ls st h := rfl
theorem eb_60_13 : jx_eb d 60 13 ls st h = jx_ev d 60 [.iconst 0, .goto_w 14] ls st h := rfl
theorem eb_60_14 : jx_eb d 60 14 ls st h = jx_ev d 60 [.freturn] ls st h := rfl
theorem cr_60 {r : Nat}  : jx_cr (d + 1) 60 [.ref r] h = jx_eb d 60 0 [.ref r] [] h := rfl
theorem eb_61_0 : jx_eb d 61 0 ls st h = jx_ev d 61 [.iload 1, .i2l, .jsr 0, .aload 0, .invokeinterface 3 1, .iconst 2, .iaload, .iconst 1, .isub, .i2l, .invokestatic 573, .freturn] ls st h := rfl
theorem cr_61 {r : Nat} {a1 : Int32}  : jx_cr (d + 1) 61 [.ref r, .int a1] h = jx_eb d 61 0 [.ref r, .int a1] [] h := rfl
theorem eb_62_0 : jx_eb d 62 0 ls st h = jx_ev d 62 [.iload 1, .i2l, .jsr 0, .aload 0, .invokeinterface 3 1, .iconst 3, .iaload, .iconst 1, .isub, .i2l, .invokestatic 573, .freturn] ls st h := rfl
theorem cr_62 {r : Nat} {a1 : Int32}  : jx_cr (d + 1) 62 [.ref r, .int a1] h = jx_eb d 62 0 [.ref r, .int a1] [] h := rfl
theorem eb_63_0 : jx_eb d 63 0 ls st h = jx_ev d 63 [.aload 0, .invokeinterface 3 19, .iconst 20, .iadd, .iconst 400, .if_icmp .le 15, .iconst (-1), .ireturn] ls st h := rfl
theorem eb_63_15 : jx_eb d 63 15 ls st h = jx_ev d 63 [.aload 0, .iload 1, .invokevirtual 30641, .aload 0, .iload 2, .invokevirtual 30641, .aload 0, .iload 3, .invokevirtual 30641, .aload 0, .iload 4, .invokevirtual 30641, .aload 0, .iload 5, .invokevirtual 30641, .aload 0, .invokeinterface 3 19, .ireturn] ls st h := rfl
theorem cr_63 {r : Nat} {a1 : Int32} {a2 : Int32} {a3 : Int32} {a4 : Int32} {a5 : Int32}  : jx_cr (d + 1) 63 [.ref r, .int a1, .int a2, .int a3, .int a4, .int a5] h = jx_eb d 63 0 [.ref r, .int a1, .int a2, .int a3, .int a4, .int a5] [] h := rfl
theorem eb_64_0 : jx_eb d 64 0 ls st h = jx_ev d 64 [.iconst 24, .istore 2, .goto_w 3] ls st h := rfl
theorem eb_64_3 : jx_eb d 64 3 ls st h = jx_ev d 64 [.iload 2, .ifCond .lt 36, .aload 0, .invokeinterface 3 29, .aload 0, .invokeinterface 3 19, .iload 1, .iload 2, .ishr, .i2b, .bastore, .aload 0, .dup, .invokeinterface 3 19, .iconst 1, .iadd, .multianewarray 3 19, .iinc 2 (-8), .goto 3] ls st h := rfl
theorem eb_64_36 : jx_eb d 64 36 ls st h = jx_ev d 64 [.return_] ls st h := rfl
theorem cr_64 {r : Nat} {a1 : Int32}  : jx_cr (d + 1) 64 [.ref r, .int a1] h = jx_eb d 64 0 [.ref r, .int a1, jx_un] [] h := rfl
theorem eb_65_0 : jx_eb d 65 0 ls st h = jx_ev d 65 [.iload 1, .ifCond .lt 12, .iload 1, .aload 0, .invokeinterface 3 19, .if_icmp .le 14, .goto_w 12] ls st h := rfl
theorem eb_65_12 : jx_eb d 65 12 ls st h = jx_ev d 65 [.iconst (-1), .ireturn] ls st h := rfl
theorem eb_65_14 : jx_eb d 65 14 ls st h = jx_ev d 65 [.aload 0, .iload 1, .multianewarray 3 19, .iload 1, .ireturn] ls st h := rfl
theorem cr_65 {r : Nat} {a1 : Int32}  : jx_cr (d + 1) 65 [.ref r, .int a1] h = jx_eb d 65 0 [.ref r, .int a1] [] h := rfl
theorem eb_66_0 : jx_eb d 66 0 ls st h = jx_ev d 66 [.iload 0, .tableswitch 93 0 10 #[60, 63, 66, 69, 72, 75, 78, 81, 84, 87, 90]] ls st h := rfl
theorem eb_66_60 : jx_eb d 66 60 ls st h = jx_ev d 66 [.ldc 2, .areturn] ls st h := rfl
theorem eb_66_63 : jx_eb d 66 63 ls st h = jx_ev d 66 [.ldc 7, .areturn] ls st h := rfl
theorem eb_66_66 : jx_eb d 66 66 ls st h = jx_ev d 66 [.ldc 8, .areturn] ls st h := rfl
theorem eb_66_69 : jx_eb d 66 69 ls st h = jx_ev d 66 [.ldc 9, .areturn] ls st h := rfl
theorem eb_66_72 : jx_eb d 66 72 ls st h = jx_ev d 66 [.ldc 10, .areturn] ls st h := rfl
theorem eb_66_75 : jx_eb d 66 75 ls st h = jx_ev d 66 [.ldc 11, .areturn] ls st h := rfl
theorem eb_66_78 : jx_eb d 66 78 ls st h = jx_ev d 66 [.ldc 12, .areturn] ls st h := rfl
theorem eb_66_81 : jx_eb d 66 81 ls st h = jx_ev d 66 [.ldc 13, .areturn] ls st h := rfl
theorem eb_66_84 : jx_eb d 66 84 ls st h = jx_ev d 66 [.ldc 14, .areturn] ls st h := rfl
theorem eb_66_87 : jx_eb d 66 87 ls st h = jx_ev d 66 [.ldc 15, .areturn] ls st h := rfl
theorem eb_66_90 : jx_eb d 66 90 ls st h = jx_ev d 66 [.ldc 16, .areturn] ls st h := rfl
theorem eb_66_93 : jx_eb d 66 93 ls st h = jx_ev d 66 [.ldc 17, .areturn] ls st h := rfl
theorem cr_66 {a1 : Int32}  : jx_cr (d + 1) 66 [.int a1] h = jx_eb d 66 0 [.int a1] [] h := rfl
theorem eb_67_0 : jx_eb d 67 0 ls st h = jx_ev d 67 [.aload 0, .aload 0, .invokeinterface 3 21, .ifCond .ne 19, .iconst 1, .iconst 8, .iload 2, .imul, .iadd, .iload 1, .iadd, .goto 23] ls st h := rfl
theorem eb_67_19 : jx_eb d 67 19 ls st h = jx_ev d 67 [.aload 0, .invokeinterface 3 21, .goto_w 23] ls st h := rfl
theorem eb_67_23 : jx_eb d 67 23 ls st h = jx_ev d 67 [.multianewarray 3 21, .return_] ls st h := rfl
theorem cr_67 {r : Nat} {a1 : Int32} {a2 : Int32}  : jx_cr (d + 1) 67 [.ref r, .int a1, .int a2] h = jx_eb d 67 0 [.ref r, .int a1, .int a2] [] h := rfl
theorem eb_68_0 : jx_eb d 68 0 ls st h = jx_ev d 68 [.aload 0, .invokeinterface 3 20, .aload 0, .invokeinterface 3 19, .if_icmp .ge 27, .aload 0, .invokeinterface 3 29, .aload 0, .invokeinterface 3 20, .baload, .iconst 255, .iand, .goto 28] ls st h := rfl
theorem eb_68_27 : jx_eb d 68 27 ls st h = jx_ev d 68 [.iconst (-1), .goto_w 28] ls st h := rfl
theorem eb_68_28 : jx_eb d 68 28 ls st h = jx_ev d 68 [.ireturn] ls st h := rfl
theorem cr_68 {r : Nat}  : jx_cr (d + 1) 68 [.ref r] h = jx_eb d 68 0 [.ref r] [] h := rfl
theorem eb_69_0 : jx_eb d 69 0 ls st h = jx_ev d 69 [.aload 0, .invokevirtual 30680, .iconst 32, .if_icmp .ne 22, .aload 0, .dup, .invokeinterface 3 20, .iconst 1, .iadd, .multianewarray 3 20, .goto 0] ls st h := rfl
theorem eb_69_22 : jx_eb d 69 22 ls st h = jx_ev d 69 [.return_] ls st h := rfl
theorem cr_69 {r : Nat}  : jx_cr (d + 1) 69 [.ref r] h = jx_eb d 69 0 [.ref r] [] h := rfl
theorem eb_70_0 : jx_eb d 70 0 ls st h = jx_ev d 70 [.aload 0, .invokevirtual 30680, .i2l, .jsr 48, .jsr 57, .invokestatic 573, .freturn] ls st h := rfl
theorem cr_70 {r : Nat}  : jx_cr (d + 1) 70 [.ref r] h = jx_eb d 70 0 [.ref r] [] h := rfl
theorem eb_71_0 : jx_eb d 71 0 ls st h = jx_ev d 71 [.aload 0, .invokeinterface 3 20, .istore 2, .goto_w 5] ls st h := rfl
theorem eb_71_5 : jx_eb d 71 5 ls st h = jx_ev d 71 [.iload 2, .aload 0, .invokeinterface 3 19, .if_icmp .ge 41, .aload 0, .invokeinterface 3 29, .iload 2, .baload, .iconst 97, .if_icmp .lt 41, .aload 0, .invokeinterface 3 29, .iload 2, .baload, .iconst 122, .if_icmp .gt 41, .iinc 2 1, .goto 5] ls st h := rfl
theorem eb_71_41 : jx_eb d 71 41 ls st h = jx_ev d 71 [.iload 2, .aload 0, .invokeinterface 3 20, .isub, .aload 1, .invokevirtual 192330, .if_icmp .ne 58, .iconst 1, .goto 59] ls st h := rfl
theorem eb_71_58 : jx_eb d 71 58 ls st h = jx_ev d 71 [.iconst 0, .goto_w 59] ls st h := rfl
theorem eb_71_59 : jx_eb d 71 59 ls st h = jx_ev d 71 [.istore 3, .iconst 0, .istore 4, .goto_w 63] ls st h := rfl
theorem eb_71_63 : jx_eb d 71 63 ls st h = jx_ev d 71 [.iload 4, .aload 1, .invokevirtual 192330, .if_icmp .ge 109, .iload 3, .ifCond .eq 109, .aload 0, .invokeinterface 3 29, .aload 0, .invokeinterface 3 20, .iload 4, .iadd, .baload, .aload 1, .iload 4, .invokevirtual 192291, .if_icmp .ne 101, .iconst 1, .goto 102] ls st h := rfl
theorem eb_71_101 : jx_eb d 71 101 ls st h = jx_ev d 71 [.iconst 0, .goto_w 102] ls st h := rfl
theorem eb_71_102 : jx_eb d 71 102 ls st h = jx_ev d 71 [.istore 3, .iinc 4 1, .goto 63] ls st h := rfl
theorem eb_71_109 : jx_eb d 71 109 ls st h = jx_ev d 71 [.iload 3, .freturn] ls st h := rfl
theorem cr_71 {r : Nat} {a1 : Value} (e1 : jx_ns a1 = true) : jx_cr (d + 1) 71 [.ref r, a1] h = jx_eb d 71 0 [.ref r, a1, jx_un, jx_un, jx_un] [] h := by
  have q : jx_PP.2.1 71 [.ref r, a1] = some [.ref r, a1, jx_un, jx_un, jx_un] := by
    show jx_le [false, false] 5 [.ref r, a1] = _
    simp only [jx_le, jx_la_f jx_ns_r, jx_la_f e1, jx_la_n, Option.map_some]
    rfl
  simp only [jx_cr, q]
theorem eb_72_0 : jx_eb d 72 0 ls st h = jx_ev d 72 [.aload 0, .invokevirtual 30690, .aload 0, .aload 1, .invokevirtual 30711, .istore 2, .aload 0, .dup, .invokeinterface 3 20, .iload 2, .ifCond .eq 26, .aload 1, .invokevirtual 192330, .goto 27] ls st h := rfl
theorem eb_72_26 : jx_eb d 72 26 ls st h = jx_ev d 72 [.iconst 0, .goto_w 27] ls st h := rfl
theorem eb_72_27 : jx_eb d 72 27 ls st h = jx_ev d 72 [.iadd, .multianewarray 3 20, .iload 2, .freturn] ls st h := rfl
theorem cr_72 {r : Nat} {a1 : Value} (e1 : jx_ns a1 = true) : jx_cr (d + 1) 72 [.ref r, a1] h = jx_eb d 72 0 [.ref r, a1, jx_un] [] h := by
  have q : jx_PP.2.1 72 [.ref r, a1] = some [.ref r, a1, jx_un] := by
    show jx_le [false, false] 3 [.ref r, a1] = _
    simp only [jx_le, jx_la_f jx_ns_r, jx_la_f e1, jx_la_n, Option.map_some]
    rfl
  simp only [jx_cr, q]
theorem eb_73_0 : jx_eb d 73 0 ls st h = jx_ev d 73 [.aload 0, .invokeinterface 3 21, .ifCond .ne 55, .aload 0, .invokeinterface 3 30, .iconst 300, .aload 0, .invokeinterface 3 22, .imul, .aload 0, .invokeinterface 3 24, .iadd, .iload 1, .iastore, .aload 0, .invokeinterface 3 31, .iconst 300, .aload 0, .invokeinterface 3 22, .imul, .aload 0, .invokeinterface 3 24, .iadd, .iload 2, .iastore, .aload 0, .dup, .invokeinterface 3 24, .iconst 1, .iadd, .multianewarray 3 24, .goto_w 55] ls st h := rfl
theorem eb_73_55 : jx_eb d 73 55 ls st h = jx_ev d 73 [.return_] ls st h := rfl
theorem cr_73 {r : Nat} {a1 : Int32} {a2 : Int32}  : jx_cr (d + 1) 73 [.ref r, .int a1, .int a2] h = jx_eb d 73 0 [.ref r, .int a1, .int a2] [] h := rfl
theorem eb_74_0 : jx_eb d 74 0 ls st h = jx_ev d 74 [.aload 0, .invokeinterface 3 26, .iconst 60, .if_icmp .ne 15, .aload 0, .iconst 3, .iload 1, .invokevirtual 30672, .goto_w 15] ls st h := rfl
theorem eb_74_15 : jx_eb d 74 15 ls st h = jx_ev d 74 [.aload 0, .dup, .invokeinterface 3 26, .iconst 1, .iadd, .multianewarray 3 26, .return_] ls st h := rfl
theorem cr_74 {r : Nat} {a1 : Int32}  : jx_cr (d + 1) 74 [.ref r, .int a1] h = jx_eb d 74 0 [.ref r, .int a1] [] h := rfl
theorem eb_75_0 : jx_eb d 75 0 ls st h = jx_ev d 75 [.aload 0, .invokevirtual 30700, .ifCond .ne 18, .aload 0, .iconst 0, .aload 0, .invokeinterface 3 20, .invokevirtual 30672, .iconst 0, .ireturn] ls st h := rfl
theorem eb_75_18 : jx_eb d 75 18 ls st h = jx_ev d 75 [.aload 0, .invokeinterface 3 20, .istore 2, .iconst 0, .istore 3, .goto_w 25] ls st h := rfl
theorem eb_75_25 : jx_eb d 75 25 ls st h = jx_ev d 75 [.aload 0, .invokevirtual 30700, .ifCond .eq 72, .aload 0, .invokeinterface 3 20, .iload 2, .isub, .iconst 5, .if_icmp .ge 57, .iconst 10, .iload 3, .imul, .aload 0, .invokevirtual 30680, .iadd, .iconst 48, .isub, .goto 58] ls st h := rfl
theorem eb_75_57 : jx_eb d 75 57 ls st h = jx_ev d 75 [.iload 3, .goto_w 58] ls st h := rfl
theorem eb_75_58 : jx_eb d 75 58 ls st h = jx_ev d 75 [.istore 3, .aload 0, .dup, .invokeinterface 3 20, .iconst 1, .iadd, .multianewarray 3 20, .goto 25] ls st h := rfl
theorem eb_75_72 : jx_eb d 75 72 ls st h = jx_ev d 75 [.aload 0, .invokeinterface 3 20, .iload 2, .isub, .iconst 5, .if_icmp .gt 87, .iload 3, .iload 1, .if_icmp .le 93, .goto_w 87] ls st h := rfl
theorem eb_75_87 : jx_eb d 75 87 ls st h = jx_ev d 75 [.aload 0, .iconst 1, .iload 2, .invokevirtual 30672, .goto_w 93] ls st h := rfl
theorem eb_75_93 : jx_eb d 75 93 ls st h = jx_ev d 75 [.iload 3, .ireturn] ls st h := rfl
theorem cr_75 {r : Nat} {a1 : Int32}  : jx_cr (d + 1) 75 [.ref r, .int a1] h = jx_eb d 75 0 [.ref r, .int a1, jx_un, jx_un] [] h := rfl
theorem eb_76_0 : jx_eb d 76 0 ls st h = jx_ev d 76 [.aload 0, .invokevirtual 30690, .aload 0, .invokeinterface 3 20, .istore 1, .aload 0, .invokevirtual 30700, .ifCond .eq 35, .aload 0, .iconst 99999, .invokevirtual 30751, .istore 2, .aload 0, .iload 1, .invokevirtual 30741, .aload 0, .iconst 0, .iload 2, .invokevirtual 30732, .return_] ls st h := rfl
theorem eb_76_35 : jx_eb d 76 35 ls st h = jx_ev d 76 [.iconst 0, .istore 2, .goto_w 37] ls st h := rfl
theorem eb_76_37 : jx_eb d 76 37 ls st h = jx_ev d 76 [.iload 2, .aload 0, .invokeinterface 3 28, .if_icmp .ge 62, .aload 0, .iload 2, .invokestatic 661, .invokevirtual 30711, .ifCond .ne 62, .iinc 2 1, .goto 37] ls st h := rfl
theorem eb_76_62 : jx_eb d 76 62 ls st h = jx_ev d 76 [.iload 2, .aload 0, .invokeinterface 3 28, .if_icmp .ne 77, .aload 0, .iconst 0, .iload 1, .invokevirtual 30672, .return_] ls st h := rfl
theorem eb_76_77 : jx_eb d 76 77 ls st h = jx_ev d 76 [.aload 0, .iload 1, .invokevirtual 30741, .aload 0, .dup, .invokeinterface 3 20, .iload 2, .invokestatic 661, .invokevirtual 192330, .iadd, .multianewarray 3 20, .aload 0, .iconst 1, .iload 2, .invokevirtual 30732, .return_] ls st h := rfl
theorem cr_76 {r : Nat}  : jx_cr (d + 1) 76 [.ref r] h = jx_eb d 76 0 [.ref r, jx_un, jx_un] [] h := rfl
theorem eb_77_0 : jx_eb d 77 0 ls st h = jx_ev d 77 [.aload 0, .invokevirtual 30760, .aload 0, .invokevirtual 30690, .goto_w 8] ls st h := rfl
theorem eb_77_8 : jx_eb d 77 8 ls st h = jx_ev d 77 [.aload 0, .invokeinterface 3 21, .ifCond .ne 100, .aload 0, .invokevirtual 30680, .iconst 42, .if_icmp .eq 42, .aload 0, .invokevirtual 30680, .iconst 47, .if_icmp .eq 42, .aload 0, .invokevirtual 30680, .iconst 37, .if_icmp .ne 100, .goto_w 42] ls st h := rfl
theorem eb_77_42 : jx_eb d 77 42 ls st h = jx_ev d 77 [.aload 0, .invokevirtual 30680, .iconst 42, .if_icmp .ne 56, .iconst 13, .goto 72] ls st h := rfl
theorem eb_77_56 : jx_eb d 77 56 ls st h = jx_ev d 77 [.aload 0, .invokevirtual 30680, .iconst 47, .if_icmp .ne 70, .iconst 14, .goto 72] ls st h := rfl
theorem eb_77_70 : jx_eb d 77 70 ls st h = jx_ev d 77 [.iconst 15, .goto_w 72] ls st h := rfl
theorem eb_77_72 : jx_eb d 77 72 ls st h = jx_ev d 77 [.istore 1, .aload 0, .dup, .invokeinterface 3 20, .iconst 1, .iadd, .multianewarray 3 20, .aload 0, .invokevirtual 30760, .aload 0, .iload 1, .iconst 0, .invokevirtual 30732, .aload 0, .invokevirtual 30690, .goto 8] ls st h := rfl
theorem eb_77_100 : jx_eb d 77 100 ls st h = jx_ev d 77 [.return_] ls st h := rfl
theorem cr_77 {r : Nat}  : jx_cr (d + 1) 77 [.ref r] h = jx_eb d 77 0 [.ref r, jx_un] [] h := rfl
theorem eb_78_0 : jx_eb d 78 0 ls st h = jx_ev d 78 [.aload 0, .invokevirtual 30770, .goto_w 4] ls st h := rfl
theorem eb_78_4 : jx_eb d 78 4 ls st h = jx_ev d 78 [.aload 0, .invokeinterface 3 21, .ifCond .ne 67, .aload 0, .invokevirtual 30680, .iconst 43, .if_icmp .eq 29, .aload 0, .invokevirtual 30680, .iconst 45, .if_icmp .ne 67, .goto_w 29] ls st h := rfl
theorem eb_78_29 : jx_eb d 78 29 ls st h = jx_ev d 78 [.aload 0, .invokevirtual 30680, .iconst 43, .if_icmp .ne 42, .iconst 2, .goto 43] ls st h := rfl
theorem eb_78_42 : jx_eb d 78 42 ls st h = jx_ev d 78 [.iconst 3, .goto_w 43] ls st h := rfl
theorem eb_78_43 : jx_eb d 78 43 ls st h = jx_ev d 78 [.istore 1, .aload 0, .dup, .invokeinterface 3 20, .iconst 1, .iadd, .multianewarray 3 20, .aload 0, .invokevirtual 30770, .aload 0, .iload 1, .iconst 0, .invokevirtual 30732, .goto 4] ls st h := rfl
theorem eb_78_67 : jx_eb d 78 67 ls st h = jx_ev d 78 [.return_] ls st h := rfl
theorem cr_78 {r : Nat}  : jx_cr (d + 1) 78 [.ref r] h = jx_eb d 78 0 [.ref r, jx_un] [] h := rfl
theorem eb_79_0 : jx_eb d 79 0 ls st h = jx_ev d 79 [.aload 0, .invokevirtual 30780, .aload 0, .invokevirtual 30680, .istore 1, .iload 1, .iconst 60, .if_icmp .eq 37, .iload 1, .iconst 61, .if_icmp .eq 37, .iload 1, .iconst 62, .if_icmp .eq 37, .aload 0, .iconst 0, .aload 0, .invokeinterface 3 20, .invokevirtual 30672, .return_] ls st h := rfl
theorem eb_79_37 : jx_eb d 79 37 ls st h = jx_ev d 79 [.aload 0, .aload 0, .invokeinterface 3 20, .invokevirtual 30741, .aload 0, .dup, .invokeinterface 3 20, .iconst 1, .iadd, .multianewarray 3 20, .iload 1, .iconst 61, .if_icmp .eq 74, .aload 0, .invokevirtual 30680, .iconst 61, .if_icmp .ne 74, .iconst 1, .goto 75] ls st h := rfl
theorem eb_79_74 : jx_eb d 79 74 ls st h = jx_ev d 79 [.iconst 0, .goto_w 75] ls st h := rfl
theorem eb_79_75 : jx_eb d 79 75 ls st h = jx_ev d 79 [.istore 2, .aload 0, .dup, .invokeinterface 3 20, .iload 2, .ifCond .eq 89, .iconst 1, .goto 90] ls st h := rfl
theorem eb_79_89 : jx_eb d 79 89 ls st h = jx_ev d 79 [.iconst 0, .goto_w 90] ls st h := rfl
theorem eb_79_90 : jx_eb d 79 90 ls st h = jx_ev d 79 [.iadd, .multianewarray 3 20, .aload 0, .invokevirtual 30780, .aload 0, .iload 1, .iconst 61, .if_icmp .ne 110, .iconst 6, .goto 139] ls st h := rfl
theorem eb_79_110 : jx_eb d 79 110 ls st h = jx_ev d 79 [.iload 1, .iconst 60, .if_icmp .ne 128, .iload 2, .ifCond .eq 124, .iconst 5, .goto 139] ls st h := rfl
theorem eb_79_124 : jx_eb d 79 124 ls st h = jx_ev d 79 [.iconst 4, .goto 139] ls st h := rfl
theorem eb_79_128 : jx_eb d 79 128 ls st h = jx_ev d 79 [.iload 2, .ifCond .eq 137, .iconst 7, .goto 139] ls st h := rfl
theorem eb_79_137 : jx_eb d 79 137 ls st h = jx_ev d 79 [.iconst 8, .goto_w 139] ls st h := rfl
theorem eb_79_139 : jx_eb d 79 139 ls st h = jx_ev d 79 [.iconst 0, .invokevirtual 30732, .return_] ls st h := rfl
theorem cr_79 {r : Nat}  : jx_cr (d + 1) 79 [.ref r] h = jx_eb d 79 0 [.ref r, jx_un, jx_un] [] h := rfl
theorem eb_80_0 : jx_eb d 80 0 ls st h = jx_ev d 80 [.aload 0, .invokeinterface 3 27, .ifCond .ne 11, .iconst (-1), .goto 22] ls st h := rfl
theorem eb_80_11 : jx_eb d 80 11 ls st h = jx_ev d 80 [.aload 0, .invokeinterface 3 36, .aload 0, .invokeinterface 3 27, .iconst 1, .isub, .iaload, .goto_w 22] ls st h := rfl
theorem eb_80_22 : jx_eb d 80 22 ls st h = jx_ev d 80 [.ireturn] ls st h := rfl
theorem cr_80 {r : Nat}  : jx_cr (d + 1) 80 [.ref r] h = jx_eb d 80 0 [.ref r] [] h := rfl
theorem eb_81_0 : jx_eb d 81 0 ls st h = jx_ev d 81 [.iload 1, .iconst 9, .if_icmp .eq 12, .iload 1, .iconst 12, .if_icmp .ne 40, .goto_w 12] ls st h := rfl
theorem eb_81_12 : jx_eb d 81 12 ls st h = jx_ev d 81 [.aload 0, .invokeinterface 3 25, .iconst 10, .if_icmp .ne 30, .aload 0, .iconst 2, .aload 0, .invokeinterface 3 20, .invokevirtual 30672, .goto_w 30] ls st h := rfl
theorem eb_81_30 : jx_eb d 81 30 ls st h = jx_ev d 81 [.aload 0, .dup, .invokeinterface 3 25, .iconst 1, .iadd, .multianewarray 3 25, .goto_w 40] ls st h := rfl
theorem eb_81_40 : jx_eb d 81 40 ls st h = jx_ev d 81 [.aload 0, .invokeinterface 3 36, .aload 0, .invokeinterface 3 27, .iload 1, .iastore, .aload 0, .dup, .invokeinterface 3 27, .iconst 1, .iadd, .multianewarray 3 27, .return_] ls st h := rfl
theorem cr_81 {r : Nat} {a1 : Int32}  : jx_cr (d + 1) 81 [.ref r, .int a1] h = jx_eb d 81 0 [.ref r, .int a1] [] h := rfl
theorem eb_82_0 : jx_eb d 82 0 ls st h = jx_ev d 82 [.aload 0, .invokevirtual 30800, .iload 1, .if_icmp .ne 54, .aload 0, .invokeinterface 3 21, .ifCond .ne 54, .aload 0, .iload 1, .iconst 0, .invokevirtual 30732, .aload 0, .dup, .invokeinterface 3 27, .iconst 1, .isub, .multianewarray 3 27, .aload 0, .dup, .invokeinterface 3 25, .iload 1, .iconst 9, .if_icmp .ne 46, .iconst 1, .goto 47] ls st h := rfl
theorem eb_82_46 : jx_eb d 82 46 ls st h = jx_ev d 82 [.iconst 0, .goto_w 47] ls st h := rfl
theorem eb_82_47 : jx_eb d 82 47 ls st h = jx_ev d 82 [.isub, .multianewarray 3 25, .goto 0] ls st h := rfl
theorem eb_82_54 : jx_eb d 82 54 ls st h = jx_ev d 82 [.return_] ls st h := rfl
theorem cr_82 {r : Nat} {a1 : Int32}  : jx_cr (d + 1) 82 [.ref r, .int a1] h = jx_eb d 82 0 [.ref r, .int a1] [] h := rfl
theorem eb_83_0 : jx_eb d 83 0 ls st h = jx_ev d 83 [.aload 0, .invokevirtual 30690, .aload 0, .ldc 19, .invokevirtual 30711, .ifCond .eq 31, .aload 0, .iconst 9, .invokevirtual 30811, .aload 0, .dup, .invokeinterface 3 20, .iconst 3, .iadd, .multianewarray 3 20, .iconst 0, .freturn] ls st h := rfl
theorem eb_83_31 : jx_eb d 83 31 ls st h = jx_ev d 83 [.aload 0, .invokevirtual 30680, .iconst 91, .if_icmp .ne 58, .aload 0, .iconst 12, .invokevirtual 30811, .aload 0, .dup, .invokeinterface 3 20, .iconst 1, .iadd, .multianewarray 3 20, .iconst 0, .freturn] ls st h := rfl
theorem eb_83_58 : jx_eb d 83 58 ls st h = jx_ev d 83 [.aload 0, .invokevirtual 30790, .iconst 1, .freturn] ls st h := rfl
theorem cr_83 {r : Nat}  : jx_cr (d + 1) 83 [.ref r] h = jx_eb d 83 0 [.ref r] [] h := rfl
theorem eb_84_0 : jx_eb d 84 0 ls st h = jx_ev d 84 [.aload 0, .iconst 0, .multianewarray 3 27, .iconst 1, .istore 1, .iconst 1, .istore 2, .goto_w 9] ls st h := rfl
theorem eb_84_9 : jx_eb d 84 9 ls st h = jx_ev d 84 [.iload 2, .ifCond .eq 202, .aload 0, .invokeinterface 3 21, .ifCond .ne 202, .iload 1, .ifCond .eq 40, .aload 0, .invokevirtual 30830, .ifCond .ne 35, .iconst 1, .goto 36] ls st h := rfl
theorem eb_84_35 : jx_eb d 84 35 ls st h = jx_ev d 84 [.iconst 0, .goto_w 36] ls st h := rfl
theorem eb_84_36 : jx_eb d 84 36 ls st h = jx_ev d 84 [.istore 1, .goto 9] ls st h := rfl
theorem eb_84_40 : jx_eb d 84 40 ls st h = jx_ev d 84 [.aload 0, .iconst 9, .invokevirtual 30821, .aload 0, .invokevirtual 30690, .aload 0, .ldc 20, .invokevirtual 30711, .istore 3, .aload 0, .ldc 21, .invokevirtual 30711, .istore 4, .aload 0, .iconst 10, .invokevirtual 30821, .iload 3, .ifCond .ne 82, .iload 4, .ifCond .eq 131, .goto_w 82] ls st h := rfl
theorem eb_84_82 : jx_eb d 84 82 ls st h = jx_ev d 84 [.iload 4, .ifCond .eq 93, .aload 0, .iconst 11, .invokevirtual 30821, .goto_w 93] ls st h := rfl
theorem eb_84_93 : jx_eb d 84 93 ls st h = jx_ev d 84 [.aload 0, .iload 3, .ifCond .eq 103, .iconst 10, .goto 105] ls st h := rfl
theorem eb_84_103 : jx_eb d 84 103 ls st h = jx_ev d 84 [.iconst 11, .goto_w 105] ls st h := rfl
theorem eb_84_105 : jx_eb d 84 105 ls st h = jx_ev d 84 [.invokevirtual 30811, .aload 0, .dup, .invokeinterface 3 20, .iload 3, .ifCond .eq 121, .iconst 3, .goto 122] ls st h := rfl
theorem eb_84_121 : jx_eb d 84 121 ls st h = jx_ev d 84 [.iconst 2, .goto_w 122] ls st h := rfl
theorem eb_84_122 : jx_eb d 84 122 ls st h = jx_ev d 84 [.iadd, .multianewarray 3 20, .iconst 1, .istore 1, .goto 199] ls st h := rfl
theorem eb_84_131 : jx_eb d 84 131 ls st h = jx_ev d 84 [.aload 0, .iconst 11, .invokevirtual 30821, .aload 0, .invokevirtual 30800, .iconst 12, .if_icmp .ne 197, .aload 0, .invokevirtual 30680, .iconst 93, .if_icmp .eq 164, .aload 0, .iconst 0, .aload 0, .invokeinterface 3 20, .invokevirtual 30672, .goto_w 164] ls st h := rfl
theorem eb_84_164 : jx_eb d 84 164 ls st h = jx_ev d 84 [.aload 0, .dup, .invokeinterface 3 20, .iconst 1, .iadd, .multianewarray 3 20, .aload 0, .dup, .invokeinterface 3 27, .iconst 1, .isub, .multianewarray 3 27, .aload 0, .dup, .invokeinterface 3 25, .iconst 1, .isub, .multianewarray 3 25, .goto 199] ls st h := rfl
theorem eb_84_197 : jx_eb d 84 197 ls st h = jx_ev d 84 [.iconst 0, .istore 2, .goto_w 199] ls st h := rfl
theorem eb_84_199 : jx_eb d 84 199 ls st h = jx_ev d 84 [.goto 9] ls st h := rfl
theorem eb_84_202 : jx_eb d 84 202 ls st h = jx_ev d 84 [.return_] ls st h := rfl
theorem cr_84 {r : Nat}  : jx_cr (d + 1) 84 [.ref r] h = jx_eb d 84 0 [.ref r, jx_un, jx_un, jx_un, jx_un] [] h := rfl
theorem eb_85_0 : jx_eb d 85 0 ls st h = jx_ev d 85 [.aload 0, .invokevirtual 30690, .aload 0, .invokeinterface 3 20, .istore 3, .aload 0, .invokeinterface 3 21, .ifCond .ne 25, .aload 0, .iconst 99999, .invokevirtual 30751, .goto 26] ls st h := rfl
theorem eb_85_25 : jx_eb d 85 25 ls st h = jx_ev d 85 [.iconst 0, .goto_w 26] ls st h := rfl
theorem eb_85_26 : jx_eb d 85 26 ls st h = jx_ev d 85 [.istore 4, .aload 0, .invokeinterface 3 21, .ifCond .ne 54, .iload 4, .i2l, .iload 1, .i2l, .iload 2, .i2l, .invokestatic 573, .ifCond .ne 54, .aload 0, .iconst 1, .iload 3, .invokevirtual 30672, .goto_w 54] ls st h := rfl
theorem eb_85_54 : jx_eb d 85 54 ls st h = jx_ev d 85 [.iload 4, .ireturn] ls st h := rfl
theorem cr_85 {r : Nat} {a1 : Int32} {a2 : Int32}  : jx_cr (d + 1) 85 [.ref r, .int a1, .int a2] h = jx_eb d 85 0 [.ref r, .int a1, .int a2, jx_un, jx_un] [] h := rfl
theorem eb_86_0 : jx_eb d 86 0 ls st h = jx_ev d 86 [.iload 0, .tableswitch 47 0 3 #[32, 36, 39, 43]] ls st h := rfl
theorem eb_86_32 : jx_eb d 86 32 ls st h = jx_ev d 86 [.ldc 1, .areturn] ls st h := rfl
theorem eb_86_36 : jx_eb d 86 36 ls st h = jx_ev d 86 [.ldc 2, .areturn] ls st h := rfl
theorem eb_86_39 : jx_eb d 86 39 ls st h = jx_ev d 86 [.ldc 3, .areturn] ls st h := rfl
theorem eb_86_43 : jx_eb d 86 43 ls st h = jx_ev d 86 [.ldc 4, .areturn] ls st h := rfl
theorem eb_86_47 : jx_eb d 86 47 ls st h = jx_ev d 86 [.ldc 5, .areturn] ls st h := rfl
theorem cr_86 {a1 : Int32}  : jx_cr (d + 1) 86 [.int a1] h = jx_eb d 86 0 [.int a1] [] h := rfl
theorem eb_87_0 : jx_eb d 87 0 ls st h = jx_ev d 87 [.aload 0, .iconst 0, .aload 0, .invokeinterface 3 13, .iconst 2, .iaload, .iconst 1, .isub, .invokevirtual 30852, .istore 1, .aload 0, .invokevirtual 30690, .aload 0, .invokeinterface 3 20, .istore 2, .aload 0, .iconst 0, .aload 0, .invokeinterface 3 13, .iconst 2, .iaload, .iconst 1, .isub, .invokevirtual 30852, .istore 3, .aload 0, .invokeinterface 3 21, .ifCond .ne 55, .iload 1, .iload 3, .if_icmp .ne 55, .aload 0, .iconst 1, .iload 2, .invokevirtual 30672, .goto_w 55] ls st h := rfl
theorem eb_87_55 : jx_eb d 87 55 ls st h = jx_ev d 87 [.aload 0, .invokeinterface 3 21, .ifCond .ne 86, .aload 0, .invokeinterface 3 15, .iload 1, .dup2, .iaload, .iconst 1, .iload 3, .ishl, .ior, .iastore, .aload 0, .invokeinterface 3 15, .iload 3, .dup2, .iaload, .iconst 1, .iload 1, .ishl, .ior, .iastore, .goto_w 86] ls st h := rfl
theorem eb_87_86 : jx_eb d 87 86 ls st h = jx_ev d 87 [.return_] ls st h := rfl
theorem cr_87 {r : Nat}  : jx_cr (d + 1) 87 [.ref r] h = jx_eb d 87 0 [.ref r, jx_un, jx_un, jx_un] [] h := rfl
theorem eb_88_0 : jx_eb d 88 0 ls st h = jx_ev d 88 [.iload 1, .tableswitch 183 0 3 #[32, 61, 92, 137]] ls st h := rfl
theorem eb_88_32 : jx_eb d 88 32 ls st h = jx_ev d 88 [.aload 0, .invokeinterface 3 13, .iconst 0, .aload 0, .iconst 1, .iconst 12, .invokevirtual 30852, .iastore, .aload 0, .invokeinterface 3 13, .iconst 1, .aload 0, .iconst 1, .iconst 99, .invokevirtual 30852, .iastore, .goto 187] ls st h := rfl
theorem eb_88_61 : jx_eb d 88 61 ls st h = jx_ev d 88 [.aload 0, .invokeinterface 3 14, .aload 0, .invokeinterface 3 13, .iconst 2, .iaload, .aload 0, .iconst 0, .iconst 20, .invokevirtual 30852, .iastore, .aload 0, .invokeinterface 3 13, .iconst 2, .dup2, .iaload, .iconst 1, .iadd, .iastore, .goto 187] ls st h := rfl
theorem eb_88_92 : jx_eb d 88 92 ls st h = jx_ev d 88 [.aload 0, .iconst 0, .aload 0, .invokeinterface 3 13, .iconst 0, .iaload, .iconst 1, .isub, .invokevirtual 30852, .istore 2, .aload 0, .iconst 0, .aload 0, .invokeinterface 3 13, .iconst 2, .iaload, .iconst 1, .isub, .invokevirtual 30852, .istore 3, .aload 0, .invokeinterface 3 21, .ifCond .ne 187, .aload 0, .invokeinterface 3 16, .iload 2, .iload 3, .iastore, .goto 187] ls st h := rfl
theorem eb_88_137 : jx_eb d 88 137 ls st h = jx_ev d 88 [.aload 0, .invokeinterface 3 13, .iconst 3, .iaload, .istore 2, .aload 0, .invokeinterface 3 17, .iload 2, .aload 0, .iconst 0, .iconst 99, .invokevirtual 30852, .iastore, .aload 0, .invokeinterface 3 18, .iload 2, .aload 0, .iconst 0, .iconst 9, .invokevirtual 30852, .iastore, .aload 0, .invokeinterface 3 13, .iconst 3, .dup2, .iaload, .iconst 1, .iadd, .iastore, .goto 187] ls st h := rfl
theorem eb_88_183 : jx_eb d 88 183 ls st h = jx_ev d 88 [.aload 0, .invokevirtual 30870, .goto_w 187] ls st h := rfl
theorem eb_88_187 : jx_eb d 88 187 ls st h = jx_ev d 88 [.return_] ls st h := rfl
theorem cr_88 {r : Nat} {a1 : Int32}  : jx_cr (d + 1) 88 [.ref r, .int a1] h = jx_eb d 88 0 [.ref r, .int a1, jx_un, jx_un] [] h := rfl
theorem eb_89_0 : jx_eb d 89 0 ls st h = jx_ev d 89 [.iload 2, .iconst 40, .if_icmp .eq 27, .iload 1, .ifCond .ne 14, .iconst 1, .goto 15] ls st h := rfl
theorem eb_89_14 : jx_eb d 89 14 ls st h = jx_ev d 89 [.iconst 0, .goto_w 15] ls st h := rfl
theorem eb_89_15 : jx_eb d 89 15 ls st h = jx_ev d 89 [.iload 2, .ifCond .ne 23, .iconst 1, .goto 24] ls st h := rfl
theorem eb_89_23 : jx_eb d 89 23 ls st h = jx_ev d 89 [.iconst 0, .goto_w 24] ls st h := rfl
theorem eb_89_24 : jx_eb d 89 24 ls st h = jx_ev d 89 [.if_icmp .eq 29, .goto_w 27] ls st h := rfl
theorem eb_89_27 : jx_eb d 89 27 ls st h = jx_ev d 89 [.iconst 1, .freturn] ls st h := rfl
theorem eb_89_29 : jx_eb d 89 29 ls st h = jx_ev d 89 [.iload 1, .lookupswitch 90 #[(1, 56), (3, 73)]] ls st h := rfl
theorem eb_89_56 : jx_eb d 89 56 ls st h = jx_ev d 89 [.aload 0, .invokeinterface 3 13, .iconst 2, .iaload, .iconst 6, .if_icmp .ne 71, .iconst 1, .goto 72] ls st h := rfl
theorem eb_89_71 : jx_eb d 89 71 ls st h = jx_ev d 89 [.iconst 0, .goto_w 72] ls st h := rfl
theorem eb_89_72 : jx_eb d 89 72 ls st h = jx_ev d 89 [.freturn] ls st h := rfl
theorem eb_89_73 : jx_eb d 89 73 ls st h = jx_ev d 89 [.aload 0, .invokeinterface 3 13, .iconst 3, .iaload, .iconst 6, .if_icmp .ne 88, .iconst 1, .goto 89] ls st h := rfl
theorem eb_89_88 : jx_eb d 89 88 ls st h = jx_ev d 89 [.iconst 0, .goto_w 89] ls st h := rfl
theorem eb_89_89 : jx_eb d 89 89 ls st h = jx_ev d 89 [.freturn] ls st h := rfl
theorem eb_89_90 : jx_eb d 89 90 ls st h = jx_ev d 89 [.iconst 0, .freturn] ls st h := rfl
theorem cr_89 {r : Nat} {a1 : Int32} {a2 : Int32}  : jx_cr (d + 1) 89 [.ref r, .int a1, .int a2] h = jx_eb d 89 0 [.ref r, .int a1, .int a2] [] h := rfl
theorem eb_90_0 : jx_eb d 90 0 ls st h = jx_ev d 90 [.aload 0, .invokevirtual 30690, .aload 0, .invokeinterface 3 20, .istore 2, .iconst 0, .istore 3, .goto_w 11] ls st h := rfl
theorem eb_90_11 : jx_eb d 90 11 ls st h = jx_ev d 90 [.iload 3, .iconst 5, .if_icmp .ge 33, .aload 0, .iload 3, .invokestatic 861, .invokevirtual 30711, .ifCond .ne 33, .iinc 3 1, .goto 11] ls st h := rfl
theorem eb_90_33 : jx_eb d 90 33 ls st h = jx_ev d 90 [.iload 3, .iconst 5, .if_icmp .ne 45, .aload 0, .iconst 0, .iload 2, .invokevirtual 30672, .return_] ls st h := rfl
theorem eb_90_45 : jx_eb d 90 45 ls st h = jx_ev d 90 [.aload 0, .iload 3, .iload 1, .invokevirtual 30892, .ifCond .eq 61, .aload 0, .iconst 4, .iload 2, .invokevirtual 30672, .return_] ls st h := rfl
theorem eb_90_61 : jx_eb d 90 61 ls st h = jx_ev d 90 [.aload 0, .dup, .invokeinterface 3 20, .iload 3, .invokestatic 861, .invokevirtual 192330, .iadd, .multianewarray 3 20, .aload 0, .iload 3, .invokevirtual 30881, .return_] ls st h := rfl
theorem cr_90 {r : Nat} {a1 : Int32}  : jx_cr (d + 1) 90 [.ref r, .int a1] h = jx_eb d 90 0 [.ref r, .int a1, jx_un, jx_un] [] h := rfl
theorem eb_91_0 : jx_eb d 91 0 ls st h = jx_ev d 91 [.iconst 0, .istore 2, .goto_w 2] ls st h := rfl
theorem eb_91_2 : jx_eb d 91 2 ls st h = jx_ev d 91 [.iload 2, .aload 0, .arraylength, .if_icmp .ge 20, .aload 1, .iload 2, .aload 0, .iload 2, .iaload, .iastore, .iinc 2 1, .goto 2] ls st h := rfl
theorem eb_91_20 : jx_eb d 91 20 ls st h = jx_ev d 91 [.return_] ls st h := rfl
theorem cr_91 {a1 : Value} {a2 : Value} (e1 : jx_ns a1 = true) (e2 : jx_ns a2 = true) : jx_cr (d + 1) 91 [a1, a2] h = jx_eb d 91 0 [a1, a2, jx_un] [] h := by
  have q : jx_PP.2.1 91 [a1, a2] = some [a1, a2, jx_un] := by
    show jx_le [false, false] 3 [a1, a2] = _
    simp only [jx_le, jx_la_f e1, jx_la_f e2, jx_la_n, Option.map_some]
    rfl
  simp only [jx_cr, q]
theorem eb_92_0 : jx_eb d 92 0 ls st h = jx_ev d 92 [.aload 0, .invokevirtual 30690, .aload 0, .invokeinterface 3 21, .ifCond .ne 40, .aload 0, .invokeinterface 3 20, .aload 0, .invokeinterface 3 19, .if_icmp .ge 40, .aload 0, .invokevirtual 30680, .iconst 59, .if_icmp .eq 40, .aload 0, .iconst 0, .aload 0, .invokeinterface 3 20, .invokevirtual 30672, .goto_w 40] ls st h := rfl
theorem eb_92_40 : jx_eb d 92 40 ls st h = jx_ev d 92 [.aload 0, .invokeinterface 3 21, .ifCond .ne 62, .aload 0, .invokeinterface 3 20, .aload 0, .invokeinterface 3 19, .if_icmp .ge 62, .iconst 1, .goto 63] ls st h := rfl
theorem eb_92_62 : jx_eb d 92 62 ls st h = jx_ev d 92 [.iconst 0, .goto_w 63] ls st h := rfl
theorem eb_92_63 : jx_eb d 92 63 ls st h = jx_ev d 92 [.istore 1, .aload 0, .dup, .invokeinterface 3 20, .iconst 1, .iadd, .multianewarray 3 20, .iload 1, .freturn] ls st h := rfl
theorem cr_92 {r : Nat}  : jx_cr (d + 1) 92 [.ref r] h = jx_eb d 92 0 [.ref r, jx_un] [] h := rfl
theorem eb_93_0 : jx_eb d 93 0 ls st h = jx_ev d 93 [.aload 0, .iconst 0, .multianewarray 3 20, .aload 0, .iconst 0, .multianewarray 3 21, .aload 0, .iconst 0, .multianewarray 3 24, .aload 0, .iconst 0, .multianewarray 3 25, .aload 0, .iconst 0, .multianewarray 3 26, .return_] ls st h := rfl
theorem cr_93 {r : Nat}  : jx_cr (d + 1) 93 [.ref r] h = jx_eb d 93 0 [.ref r] [] h := rfl
theorem eb_94_0 : jx_eb d 94 0 ls st h = jx_ev d 94 [.aload 0, .invokevirtual 30930, .iconst 0, .istore 1, .goto_w 6] ls st h := rfl
theorem eb_94_6 : jx_eb d 94 6 ls st h = jx_ev d 94 [.iload 1, .iconst 4, .if_icmp .ge 24, .aload 0, .invokeinterface 3 13, .iload 1, .iconst 0, .iastore, .iinc 1 1, .goto 6] ls st h := rfl
theorem eb_94_24 : jx_eb d 94 24 ls st h = jx_ev d 94 [.iconst 0, .istore 1, .goto_w 26] ls st h := rfl
theorem eb_94_26 : jx_eb d 94 26 ls st h = jx_ev d 94 [.iload 1, .iconst 12, .if_icmp .ge 45, .aload 0, .invokeinterface 3 16, .iload 1, .iconst (-1), .iastore, .iinc 1 1, .goto 26] ls st h := rfl
theorem eb_94_45 : jx_eb d 94 45 ls st h = jx_ev d 94 [.iconst 0, .istore 1, .goto_w 47] ls st h := rfl
theorem eb_94_47 : jx_eb d 94 47 ls st h = jx_ev d 94 [.iload 1, .iconst 6, .if_icmp .ge 73, .aload 0, .invokeinterface 3 15, .iload 1, .iconst 0, .iastore, .aload 0, .invokeinterface 3 17, .iload 1, .iconst 0, .iastore, .iinc 1 1, .goto 47] ls st h := rfl
theorem eb_94_73 : jx_eb d 94 73 ls st h = jx_ev d 94 [.iconst 0, .istore 1, .iconst 1, .istore 2, .goto_w 77] ls st h := rfl
theorem eb_94_77 : jx_eb d 94 77 ls st h = jx_ev d 94 [.iload 2, .ifCond .eq 97, .aload 0, .iload 1, .invokevirtual 30901, .iinc 1 1, .aload 0, .invokevirtual 30920, .istore 2, .goto 77] ls st h := rfl
theorem eb_94_97 : jx_eb d 94 97 ls st h = jx_ev d 94 [.aload 0, .iconst 0, .multianewarray 3 19, .return_] ls st h := rfl
theorem cr_94 {r : Nat}  : jx_cr (d + 1) 94 [.ref r] h = jx_eb d 94 0 [.ref r, jx_un, jx_un] [] h := rfl
theorem eb_95_0 : jx_eb d 95 0 ls st h = jx_ev d 95 [.aload 0, .invokeinterface 3 12, .aload 0, .invokeinterface 3 6, .invokestatic 912, .aload 0, .invokeinterface 3 1, .iconst 4, .iconst 0, .iastore, .aload 0, .invokeinterface 3 1, .iconst 5, .iconst (-1), .iastore, .aload 0, .invokeinterface 3 1, .iconst 6, .iconst (-1), .iastore, .aload 0, .invokeinterface 3 1, .iconst 7, .iconst 0, .iastore, .iconst 0, .istore 1, .goto_w 43] ls st h := rfl
theorem eb_95_43 : jx_eb d 95 43 ls st h = jx_ev d 95 [.iload 1, .iconst 6, .if_icmp .ge 76, .aload 0, .invokeinterface 3 4, .iload 1, .iconst 0, .iastore, .aload 0, .invokeinterface 3 8, .iload 1, .iconst 0, .iastore, .aload 0, .invokeinterface 3 9, .iload 1, .iconst 0, .iastore, .iinc 1 1, .goto 43] ls st h := rfl
theorem eb_95_76 : jx_eb d 95 76 ls st h = jx_ev d 95 [.return_] ls st h := rfl
theorem cr_95 {r : Nat}  : jx_cr (d + 1) 95 [.ref r] h = jx_eb d 95 0 [.ref r, jx_un] [] h := rfl
theorem eb_96_0 : jx_eb d 96 0 ls st h = jx_ev d 96 [.aload 0, .invokevirtual 30940, .aload 0, .invokeinterface 3 21, .ifCond .le 19, .iconst (-2), .aload 0, .invokeinterface 3 21, .isub, .ireturn] ls st h := rfl
theorem eb_96_19 : jx_eb d 96 19 ls st h = jx_ev d 96 [.iconst 0, .istore 1, .goto_w 21] ls st h := rfl
theorem eb_96_21 : jx_eb d 96 21 ls st h = jx_ev d 96 [.iload 1, .iconst 4, .if_icmp .ge 44, .aload 0, .invokeinterface 3 1, .iload 1, .aload 0, .invokeinterface 3 13, .iload 1, .iaload, .iastore, .iinc 1 1, .goto 21] ls st h := rfl
theorem eb_96_44 : jx_eb d 96 44 ls st h = jx_ev d 96 [.aload 0, .invokeinterface 3 1, .iconst 8, .iconst 0, .iastore, .aload 0, .invokeinterface 3 14, .aload 0, .invokeinterface 3 2, .invokestatic 912, .aload 0, .invokeinterface 3 15, .aload 0, .invokeinterface 3 3, .invokestatic 912, .aload 0, .invokeinterface 3 16, .aload 0, .invokeinterface 3 5, .invokestatic 912, .aload 0, .invokeinterface 3 17, .aload 0, .invokeinterface 3 12, .invokestatic 912, .aload 0, .invokeinterface 3 18, .aload 0, .invokeinterface 3 7, .invokestatic 912, .aload 0, .invokevirtual 30950, .aload 0, .iconst 0, .multianewarray 3 41, .aload 0, .invokeinterface 3 1, .iconst 2, .iaload, .ireturn] ls st h := rfl
theorem cr_96 {r : Nat}  : jx_cr (d + 1) 96 [.ref r] h = jx_eb d 96 0 [.ref r, jx_un] [] h := rfl
theorem eb_97_0 : jx_eb d 97 0 ls st h = jx_ev d 97 [.aload 0, .invokevirtual 30690, .aload 0, .invokeinterface 3 20, .istore 2, .aload 0, .ldc 6, .invokevirtual 30711, .ifCond .ne 26, .aload 0, .iconst 0, .iload 2, .invokevirtual 30672, .return_] ls st h := rfl
theorem eb_97_26 : jx_eb d 97 26 ls st h = jx_ev d 97 [.iload 1, .iconst 12, .if_icmp .ne 39, .aload 0, .iconst 4, .iload 2, .invokevirtual 30672, .return_] ls st h := rfl
theorem eb_97_39 : jx_eb d 97 39 ls st h = jx_ev d 97 [.aload 0, .dup, .invokeinterface 3 20, .iconst 4, .iadd, .multianewarray 3 20, .iconst 12, .aload 0, .invokeinterface 3 22, .imul, .iload 1, .iadd, .istore 3, .aload 0, .invokeinterface 3 33, .iload 3, .aload 0, .invokeinterface 3 24, .iastore, .aload 0, .invokevirtual 30780, .aload 0, .invokeinterface 3 34, .iload 3, .aload 0, .invokeinterface 3 24, .iastore, .aload 0, .invokeinterface 3 21, .ifCond .ne 104, .aload 0, .ldc 18, .invokevirtual 30721, .ifCond .eq 104, .aload 0, .invokevirtual 30840, .goto_w 104] ls st h := rfl
theorem eb_97_104 : jx_eb d 97 104 ls st h = jx_ev d 97 [.aload 0, .invokeinterface 3 35, .iload 3, .aload 0, .invokeinterface 3 24, .iastore, .return_] ls st h := rfl
theorem cr_97 {r : Nat} {a1 : Int32}  : jx_cr (d + 1) 97 [.ref r, .int a1] h = jx_eb d 97 0 [.ref r, .int a1, jx_un, jx_un] [] h := rfl
theorem eb_98_0 : jx_eb d 98 0 ls st h = jx_ev d 98 [.aload 0, .invokeinterface 3 23, .iconst 6, .if_icmp .ne 11, .iconst (-1), .ireturn] ls st h := rfl
theorem eb_98_11 : jx_eb d 98 11 ls st h = jx_ev d 98 [.aload 0, .aload 0, .invokeinterface 3 23, .multianewarray 3 22, .aload 0, .invokevirtual 30930, .iconst 0, .istore 1, .iconst 1, .istore 2, .goto_w 27] ls st h := rfl
theorem eb_98_27 : jx_eb d 98 27 ls st h = jx_ev d 98 [.iload 2, .ifCond .eq 47, .aload 0, .iload 1, .invokevirtual 30971, .iinc 1 1, .aload 0, .invokevirtual 30920, .istore 2, .goto 27] ls st h := rfl
theorem eb_98_47 : jx_eb d 98 47 ls st h = jx_ev d 98 [.aload 0, .iconst 0, .multianewarray 3 19, .aload 0, .invokeinterface 3 32, .aload 0, .invokeinterface 3 22, .iload 1, .iastore, .aload 0, .dup, .invokeinterface 3 23, .aload 0, .invokeinterface 3 21, .ifCond .ne 78, .iconst 1, .goto 79] ls st h := rfl
theorem eb_98_78 : jx_eb d 98 78 ls st h = jx_ev d 98 [.iconst 0, .goto_w 79] ls st h := rfl
theorem eb_98_79 : jx_eb d 98 79 ls st h = jx_ev d 98 [.iadd, .multianewarray 3 23, .aload 0, .invokeinterface 3 21, .ifCond .le 100, .iconst (-2), .aload 0, .invokeinterface 3 21, .isub, .goto 106] ls st h := rfl
theorem eb_98_100 : jx_eb d 98 100 ls st h = jx_ev d 98 [.aload 0, .invokeinterface 3 23, .iconst 1, .isub, .goto_w 106] ls st h := rfl
theorem eb_98_106 : jx_eb d 98 106 ls st h = jx_ev d 98 [.ireturn] ls st h := rfl
theorem cr_98 {r : Nat}  : jx_cr (d + 1) 98 [.ref r] h = jx_eb d 98 0 [.ref r, jx_un, jx_un] [] h := rfl
theorem eb_99_0 : jx_eb d 99 0 ls st h = jx_ev d 99 [.iload 1, .i2l, .jsr (-1), .aload 0, .invokeinterface 3 23, .iconst 1, .isub, .i2l, .invokestatic 573, .ifCond .ne 21, .iconst (-2), .ireturn] ls st h := rfl
theorem eb_99_21 : jx_eb d 99 21 ls st h = jx_ev d 99 [.aload 0, .invokeinterface 3 1, .iconst 10, .iaload, .istore 2, .aload 0, .invokeinterface 3 1, .iconst 10, .iload 1, .iastore, .iload 2, .ireturn] ls st h := rfl
theorem cr_99 {r : Nat} {a1 : Int32}  : jx_cr (d + 1) 99 [.ref r, .int a1] h = jx_eb d 99 0 [.ref r, .int a1, jx_un] [] h := rfl
theorem eb_100_0 : jx_eb d 100 0 ls st h = jx_ev d 100 [.aload 0, .invokeinterface 3 1, .iconst 10, .iaload, .istore 1, .iconst 12, .iload 1, .imul, .istore 2, .goto_w 13] ls st h := rfl
theorem eb_100_13 : jx_eb d 100 13 ls st h = jx_ev d 100 [.iload 2, .iconst 12, .iload 1, .imul, .aload 0, .invokeinterface 3 32, .iload 1, .iaload, .iadd, .if_icmp .ge 89, .aload 0, .invokeinterface 3 34, .iload 2, .iaload, .aload 0, .invokeinterface 3 35, .iload 2, .iaload, .if_icmp .eq 65, .aload 0, .iload 1, .aload 0, .invokeinterface 3 34, .iload 2, .iaload, .aload 0, .invokeinterface 3 35, .iload 2, .iaload, .invokevirtual 31033, .jsr 1, .lcmp, .ifCond .ne 83, .goto_w 65] ls st h := rfl
theorem eb_100_65 : jx_eb d 100 65 ls st h = jx_ev d 100 [.aload 0, .iload 1, .aload 0, .invokeinterface 3 33, .iload 2, .iaload, .aload 0, .invokeinterface 3 34, .iload 2, .iaload, .invokevirtual 31033, .lreturn] ls st h := rfl
theorem eb_100_83 : jx_eb d 100 83 ls st h = jx_ev d 100 [.iinc 2 1, .goto 13] ls st h := rfl
theorem eb_100_89 : jx_eb d 100 89 ls st h = jx_ev d 100 [.jsr 0, .lreturn] ls st h := rfl
theorem cr_100 {r : Nat}  : jx_cr (d + 1) 100 [.ref r] h = jx_eb d 100 0 [.ref r, jx_un, jx_un] [] h := rfl
theorem eb_101_0 : jx_eb d 101 0 ls st h = jx_ev d 101 [.iload 0, .ifCond .eq 8, .jsr 1, .goto 9] ls st h := rfl
theorem eb_101_8 : jx_eb d 101 8 ls st h = jx_ev d 101 [.jsr 0, .goto_w 9] ls st h := rfl
theorem eb_101_9 : jx_eb d 101 9 ls st h = jx_ev d 101 [.lreturn] ls st h := rfl
theorem cr_101 {a1 : Int32}  : jx_cr (d + 1) 101 [.int a1] h = jx_eb d 101 0 [.int a1] [] h := rfl
theorem eb_102_0 : jx_eb d 102 0 ls st h = jx_ev d 102 [.iload 0, .tableswitch 191 2 15 #[72, 76, 112, 127, 142, 157, 172, 191, 187, 191, 191, 80, 84, 98]] ls st h := rfl
theorem eb_102_72 : jx_eb d 102 72 ls st h = jx_ev d 102 [.lload 1, .lload 3, .ladd, .lreturn] ls st h := rfl
theorem eb_102_76 : jx_eb d 102 76 ls st h = jx_ev d 102 [.lload 1, .lload 3, .lsub, .lreturn] ls st h := rfl
theorem eb_102_80 : jx_eb d 102 80 ls st h = jx_ev d 102 [.lload 1, .lload 3, .lmul, .lreturn] ls st h := rfl
theorem eb_102_84 : jx_eb d 102 84 ls st h = jx_ev d 102 [.lload 3, .jsr 0, .lcmp, .ifCond .ne 94, .jsr 0, .goto 97] ls st h := rfl
theorem eb_102_94 : jx_eb d 102 94 ls st h = jx_ev d 102 [.lload 1, .lload 3, .ldiv, .goto_w 97] ls st h := rfl
theorem eb_102_97 : jx_eb d 102 97 ls st h = jx_ev d 102 [.lreturn] ls st h := rfl
theorem eb_102_98 : jx_eb d 102 98 ls st h = jx_ev d 102 [.lload 3, .jsr 0, .lcmp, .ifCond .ne 108, .jsr 0, .goto 111] ls st h := rfl
theorem eb_102_108 : jx_eb d 102 108 ls st h = jx_ev d 102 [.lload 1, .lload 3, .lrem, .goto_w 111] ls st h := rfl
theorem eb_102_111 : jx_eb d 102 111 ls st h = jx_ev d 102 [.lreturn] ls st h := rfl
theorem eb_102_112 : jx_eb d 102 112 ls st h = jx_ev d 102 [.lload 1, .lload 3, .lcmp, .ifCond .ge 122, .iconst 1, .goto 123] ls st h := rfl
theorem eb_102_122 : jx_eb d 102 122 ls st h = jx_ev d 102 [.iconst 0, .goto_w 123] ls st h := rfl
theorem eb_102_123 : jx_eb d 102 123 ls st h = jx_ev d 102 [.invokestatic 1011, .lreturn] ls st h := rfl
theorem eb_102_127 : jx_eb d 102 127 ls st h = jx_ev d 102 [.lload 1, .lload 3, .lcmp, .ifCond .gt 137, .iconst 1, .goto 138] ls st h := rfl
theorem eb_102_137 : jx_eb d 102 137 ls st h = jx_ev d 102 [.iconst 0, .goto_w 138] ls st h := rfl
theorem eb_102_138 : jx_eb d 102 138 ls st h = jx_ev d 102 [.invokestatic 1011, .lreturn] ls st h := rfl
theorem eb_102_142 : jx_eb d 102 142 ls st h = jx_ev d 102 [.lload 1, .lload 3, .lcmp, .ifCond .ne 152, .iconst 1, .goto 153] ls st h := rfl
theorem eb_102_152 : jx_eb d 102 152 ls st h = jx_ev d 102 [.iconst 0, .goto_w 153] ls st h := rfl
theorem eb_102_153 : jx_eb d 102 153 ls st h = jx_ev d 102 [.invokestatic 1011, .lreturn] ls st h := rfl
theorem eb_102_157 : jx_eb d 102 157 ls st h = jx_ev d 102 [.lload 1, .lload 3, .lcmp, .ifCond .lt 167, .iconst 1, .goto 168] ls st h := rfl
theorem eb_102_167 : jx_eb d 102 167 ls st h = jx_ev d 102 [.iconst 0, .goto_w 168] ls st h := rfl
theorem eb_102_168 : jx_eb d 102 168 ls st h = jx_ev d 102 [.invokestatic 1011, .lreturn] ls st h := rfl
theorem eb_102_172 : jx_eb d 102 172 ls st h = jx_ev d 102 [.lload 1, .lload 3, .lcmp, .ifCond .le 182, .iconst 1, .goto 183] ls st h := rfl
theorem eb_102_182 : jx_eb d 102 182 ls st h = jx_ev d 102 [.iconst 0, .goto_w 183] ls st h := rfl
theorem eb_102_183 : jx_eb d 102 183 ls st h = jx_ev d 102 [.invokestatic 1011, .lreturn] ls st h := rfl
theorem eb_102_187 : jx_eb d 102 187 ls st h = jx_ev d 102 [.lload 1, .lload 3, .land, .lreturn] ls st h := rfl
theorem eb_102_191 : jx_eb d 102 191 ls st h = jx_ev d 102 [.lload 1, .lload 3, .lor, .lreturn] ls st h := rfl
theorem cr_102 {a1 : Int32} {a2 : Int64} {a3 : Int64}  : jx_cr (d + 1) 102 [.int a1, .long a2, .long a3] h = jx_eb d 102 0 [.int a1, .long a2, jx_sn, .long a3, jx_sn] [] h := rfl
theorem eb_103_0 : jx_eb d 103 0 ls st h = jx_ev d 103 [.iconst 0, .istore 4, .iload 2, .istore 5, .goto_w 6] ls st h := rfl
theorem eb_103_6 : jx_eb d 103 6 ls st h = jx_ev d 103 [.iload 5, .iload 3, .if_icmp .ge 153, .aload 0, .invokeinterface 3 30, .iconst 300, .iload 1, .imul, .iload 5, .iadd, .iaload, .istore 6, .aload 0, .invokeinterface 3 31, .iconst 300, .iload 1, .imul, .iload 5, .iadd, .iaload, .istore 7, .iload 6, .ifCond .eq 53, .iload 6, .iconst 1, .if_icmp .ne 84, .goto_w 53] ls st h := rfl
theorem eb_103_53 : jx_eb d 103 53 ls st h = jx_ev d 103 [.aload 0, .invokeinterface 3 38, .iload 4, .iload 6, .ifCond .ne 70, .iload 7, .i2l, .goto 77] ls st h := rfl
theorem eb_103_70 : jx_eb d 103 70 ls st h = jx_ev d 103 [.aload 0, .invokeinterface 3 37, .iload 7, .laload, .goto_w 77] ls st h := rfl
theorem eb_103_77 : jx_eb d 103 77 ls st h = jx_ev d 103 [.lastore, .iinc 4 1, .goto 147] ls st h := rfl
theorem eb_103_84 : jx_eb d 103 84 ls st h = jx_ev d 103 [.iload 6, .iconst 9, .if_icmp .ne 114, .aload 0, .invokeinterface 3 38, .iload 4, .iconst 1, .isub, .jsr 1, .aload 0, .invokeinterface 3 38, .iload 4, .iconst 1, .isub, .laload, .lsub, .lastore, .goto 147] ls st h := rfl
theorem eb_103_114 : jx_eb d 103 114 ls st h = jx_ev d 103 [.iinc 4 (-1), .aload 0, .invokeinterface 3 38, .iload 4, .iconst 1, .isub, .iload 6, .aload 0, .invokeinterface 3 38, .iload 4, .iconst 1, .isub, .laload, .aload 0, .invokeinterface 3 38, .iload 4, .laload, .invokestatic 1023, .lastore, .goto_w 147] ls st h := rfl
theorem eb_103_147 : jx_eb d 103 147 ls st h = jx_ev d 103 [.iinc 5 1, .goto 6] ls st h := rfl
theorem eb_103_153 : jx_eb d 103 153 ls st h = jx_ev d 103 [.aload 0, .invokeinterface 3 38, .iconst 0, .laload, .lreturn] ls st h := rfl
theorem cr_103 {r : Nat} {a1 : Int32} {a2 : Int32} {a3 : Int32}  : jx_cr (d + 1) 103 [.ref r, .int a1, .int a2, .int a3] h = jx_eb d 103 0 [.ref r, .int a1, .int a2, .int a3, jx_un, jx_un, jx_un, jx_un] [] h := rfl
theorem eb_104_0 : jx_eb d 104 0 ls st h = jx_ev d 104 [.iconst 0, .istore 2, .iconst 0, .istore 3, .goto_w 4] ls st h := rfl
theorem eb_104_4 : jx_eb d 104 4 ls st h = jx_ev d 104 [.iload 3, .aload 0, .invokeinterface 3 1, .iconst 3, .iaload, .if_icmp .ge 33, .iload 2, .aload 0, .invokeinterface 3 8, .iload 3, .iaload, .iload 1, .ishr, .iconst 1, .iand, .iadd, .istore 2, .iinc 3 1, .goto 4] ls st h := rfl
theorem eb_104_33 : jx_eb d 104 33 ls st h = jx_ev d 104 [.iload 2, .ireturn] ls st h := rfl
theorem cr_104 {r : Nat} {a1 : Int32}  : jx_cr (d + 1) 104 [.ref r, .int a1] h = jx_eb d 104 0 [.ref r, .int a1, jx_un, jx_un] [] h := rfl
theorem eb_105_0 : jx_eb d 105 0 ls st h = jx_ev d 105 [.aload 0, .iload 1, .invokevirtual 30611, .ifCond .ne 10, .iconst (-1), .ireturn] ls st h := rfl
theorem eb_105_10 : jx_eb d 105 10 ls st h = jx_ev d 105 [.iload 2, .tableswitch 67 0 3 #[40, 47, 54, 60]] ls st h := rfl
theorem eb_105_40 : jx_eb d 105 40 ls st h = jx_ev d 105 [.aload 0, .invokeinterface 3 2, .iload 1, .iaload, .ireturn] ls st h := rfl
theorem eb_105_47 : jx_eb d 105 47 ls st h = jx_ev d 105 [.aload 0, .invokeinterface 3 4, .iload 1, .iaload, .ireturn] ls st h := rfl
theorem eb_105_54 : jx_eb d 105 54 ls st h = jx_ev d 105 [.aload 0, .iload 1, .invokevirtual 31041, .ireturn] ls st h := rfl
theorem eb_105_60 : jx_eb d 105 60 ls st h = jx_ev d 105 [.aload 0, .invokeinterface 3 3, .iload 1, .iaload, .ireturn] ls st h := rfl
theorem eb_105_67 : jx_eb d 105 67 ls st h = jx_ev d 105 [.iconst (-1), .ireturn] ls st h := rfl
theorem cr_105 {r : Nat} {a1 : Int32} {a2 : Int32}  : jx_cr (d + 1) 105 [.ref r, .int a1, .int a2] h = jx_eb d 105 0 [.ref r, .int a1, .int a2] [] h := rfl
theorem eb_106_0 : jx_eb d 106 0 ls st h = jx_ev d 106 [.aload 0, .invokevirtual 30600, .ifCond .eq 34, .iload 1, .i2l, .jsr 0, .aload 0, .invokeinterface 3 1, .iconst 0, .iaload, .iconst 1, .isub, .i2l, .invokestatic 573, .ifCond .eq 34, .aload 0, .invokeinterface 3 5, .iload 1, .iaload, .goto 36] ls st h := rfl
theorem eb_106_34 : jx_eb d 106 34 ls st h = jx_ev d 106 [.iconst (-2), .goto_w 36] ls st h := rfl
theorem eb_106_36 : jx_eb d 106 36 ls st h = jx_ev d 106 [.ireturn] ls st h := rfl
theorem cr_106 {r : Nat} {a1 : Int32}  : jx_cr (d + 1) 106 [.ref r, .int a1] h = jx_eb d 106 0 [.ref r, .int a1] [] h := rfl
theorem eb_107_0 : jx_eb d 107 0 ls st h = jx_ev d 107 [.iconst 0, .istore 2, .iconst 0, .istore 3, .goto_w 4] ls st h := rfl
theorem eb_107_4 : jx_eb d 107 4 ls st h = jx_ev d 107 [.iload 3, .aload 0, .invokeinterface 3 1, .iconst 2, .iaload, .if_icmp .ge 46, .iload 2, .aload 0, .invokeinterface 3 8, .iload 1, .iaload, .iload 3, .invokestatic 592, .ifCond .eq 37, .aload 0, .invokeinterface 3 2, .iload 3, .iaload, .goto 38] ls st h := rfl
theorem eb_107_37 : jx_eb d 107 37 ls st h = jx_ev d 107 [.iconst 0, .goto_w 38] ls st h := rfl
theorem eb_107_38 : jx_eb d 107 38 ls st h = jx_ev d 107 [.iadd, .istore 2, .iinc 3 1, .goto 4] ls st h := rfl
theorem eb_107_46 : jx_eb d 107 46 ls st h = jx_ev d 107 [.iload 2, .ireturn] ls st h := rfl
theorem cr_107 {r : Nat} {a1 : Int32}  : jx_cr (d + 1) 107 [.ref r, .int a1] h = jx_eb d 107 0 [.ref r, .int a1, jx_un, jx_un] [] h := rfl
theorem eb_108_0 : jx_eb d 108 0 ls st h = jx_ev d 108 [.aload 0, .iload 1, .invokevirtual 30621, .ifCond .ne 10, .iconst (-1), .ireturn] ls st h := rfl
theorem eb_108_10 : jx_eb d 108 10 ls st h = jx_ev d 108 [.iload 2, .tableswitch 78 0 4 #[44, 51, 58, 65, 71]] ls st h := rfl
theorem eb_108_44 : jx_eb d 108 44 ls st h = jx_ev d 108 [.aload 0, .invokeinterface 3 6, .iload 1, .iaload, .ireturn] ls st h := rfl
theorem eb_108_51 : jx_eb d 108 51 ls st h = jx_ev d 108 [.aload 0, .invokeinterface 3 7, .iload 1, .iaload, .ireturn] ls st h := rfl
theorem eb_108_58 : jx_eb d 108 58 ls st h = jx_ev d 108 [.aload 0, .invokeinterface 3 8, .iload 1, .iaload, .ireturn] ls st h := rfl
theorem eb_108_65 : jx_eb d 108 65 ls st h = jx_ev d 108 [.aload 0, .iload 1, .invokevirtual 31071, .ireturn] ls st h := rfl
theorem eb_108_71 : jx_eb d 108 71 ls st h = jx_ev d 108 [.aload 0, .invokeinterface 3 9, .iload 1, .iaload, .ireturn] ls st h := rfl
theorem eb_108_78 : jx_eb d 108 78 ls st h = jx_ev d 108 [.iconst (-1), .ireturn] ls st h := rfl
theorem cr_108 {r : Nat} {a1 : Int32} {a2 : Int32}  : jx_cr (d + 1) 108 [.ref r, .int a1, .int a2] h = jx_eb d 108 0 [.ref r, .int a1, .int a2] [] h := rfl
theorem eb_109_0 : jx_eb d 109 0 ls st h = jx_ev d 109 [.iconst 0, .istore 1, .iconst 0, .istore 2, .goto_w 4] ls st h := rfl
theorem eb_109_4 : jx_eb d 109 4 ls st h = jx_ev d 109 [.iload 2, .aload 0, .invokeinterface 3 1, .iconst 3, .iaload, .if_icmp .ge 39, .iload 1, .aload 0, .invokeinterface 3 8, .iload 2, .iaload, .ifCond .eq 30, .iconst 1, .iload 2, .ishl, .goto 31] ls st h := rfl
theorem eb_109_30 : jx_eb d 109 30 ls st h = jx_ev d 109 [.iconst 0, .goto_w 31] ls st h := rfl
theorem eb_109_31 : jx_eb d 109 31 ls st h = jx_ev d 109 [.ior, .istore 1, .iinc 2 1, .goto 4] ls st h := rfl
theorem eb_109_39 : jx_eb d 109 39 ls st h = jx_ev d 109 [.iload 1, .ireturn] ls st h := rfl
theorem cr_109 {r : Nat}  : jx_cr (d + 1) 109 [.ref r] h = jx_eb d 109 0 [.ref r, jx_un, jx_un] [] h := rfl
theorem eb_110_0 : jx_eb d 110 0 ls st h = jx_ev d 110 [.iconst 0, .istore 2, .iconst 0, .istore 3, .iconst 0, .istore 4, .goto_w 7] ls st h := rfl
theorem eb_110_7 : jx_eb d 110 7 ls st h = jx_ev d 110 [.iload 4, .aload 0, .invokeinterface 3 1, .iconst 3, .iaload, .if_icmp .ge 71, .iload 2, .aload 0, .invokeinterface 3 6, .iload 4, .iaload, .aload 0, .invokeinterface 3 1, .iconst 1, .iaload, .if_icmp .lt 39, .iconst 1, .goto 40] ls st h := rfl
theorem eb_110_39 : jx_eb d 110 39 ls st h = jx_ev d 110 [.iconst 0, .goto_w 40] ls st h := rfl
theorem eb_110_40 : jx_eb d 110 40 ls st h = jx_ev d 110 [.iadd, .istore 2, .aload 0, .invokeinterface 3 6, .iload 4, .iaload, .iload 3, .if_icmp .le 63, .aload 0, .invokeinterface 3 6, .iload 4, .iaload, .goto 64] ls st h := rfl
theorem eb_110_63 : jx_eb d 110 63 ls st h = jx_ev d 110 [.iload 3, .goto_w 64] ls st h := rfl
theorem eb_110_64 : jx_eb d 110 64 ls st h = jx_ev d 110 [.istore 3, .iinc 4 1, .goto 7] ls st h := rfl
theorem eb_110_71 : jx_eb d 110 71 ls st h = jx_ev d 110 [.aload 0, .invokeinterface 3 1, .iconst 4, .iaload, .aload 0, .invokeinterface 3 1, .iconst 0, .iaload, .irem, .istore 4, .aload 0, .invokeinterface 3 37, .iconst 0, .iload 1, .i2l, .lastore, .aload 0, .invokeinterface 3 37, .iconst 1, .aload 0, .invokeinterface 3 2, .iload 1, .iaload, .i2l, .lastore, .aload 0, .invokeinterface 3 37, .iconst 2, .iload 4, .i2l, .lastore, .aload 0, .invokeinterface 3 37, .iconst 3, .aload 0, .invokeinterface 3 5, .iload 4, .iaload, .iload 1, .if_icmp .ne 136, .jsr 1, .goto 137] ls st h := rfl
theorem eb_110_136 : jx_eb d 110 136 ls st h = jx_ev d 110 [.jsr 0, .goto_w 137] ls st h := rfl
theorem eb_110_137 : jx_eb d 110 137 ls st h = jx_ev d 110 [.lastore, .aload 0, .invokeinterface 3 37, .iconst 4, .aload 0, .invokeinterface 3 1, .iconst 5, .iaload, .iload 1, .if_icmp .ne 157, .jsr 1, .goto 158] ls st h := rfl
theorem eb_110_157 : jx_eb d 110 157 ls st h = jx_ev d 110 [.jsr 0, .goto_w 158] ls st h := rfl
theorem eb_110_158 : jx_eb d 110 158 ls st h = jx_ev d 110 [.lastore, .aload 0, .invokeinterface 3 37, .iconst 5, .aload 0, .invokeinterface 3 4, .iload 1, .iaload, .i2l, .lastore, .aload 0, .invokeinterface 3 37, .iconst 6, .aload 0, .iload 1, .invokevirtual 31041, .i2l, .lastore, .aload 0, .invokeinterface 3 37, .iconst 7, .iload 2, .i2l, .lastore, .aload 0, .invokeinterface 3 37, .iconst 8, .aload 0, .invokevirtual 31090, .invokestatic 581, .i2l, .lastore, .aload 0, .invokeinterface 3 37, .iconst 9, .iload 3, .i2l, .lastore, .aload 0, .invokeinterface 3 37, .iconst 10, .aload 0, .invokeinterface 3 1, .iconst 3, .iaload, .i2l, .lastore, .aload 0, .invokeinterface 3 37, .iconst 11, .aload 0, .invokeinterface 3 1, .iconst 4, .iaload, .i2l, .lastore, .aload 0, .invokevirtual 31000, .lreturn] ls st h := rfl
theorem cr_110 {r : Nat} {a1 : Int32}  : jx_cr (d + 1) 110 [.ref r, .int a1] h = jx_eb d 110 0 [.ref r, .int a1, jx_un, jx_un, jx_un] [] h := rfl
theorem eb_111_0 : jx_eb d 111 0 ls st h = jx_ev d 111 [.aload 0, .invokeinterface 3 1, .iconst 7, .iaload, .ifCond .le 12, .iconst (-1), .ireturn] ls st h := rfl
theorem eb_111_12 : jx_eb d 111 12 ls st h = jx_ev d 111 [.aload 0, .invokeinterface 3 1, .iconst 6, .iaload, .iconst (-1), .if_icmp .eq 31, .aload 0, .invokeinterface 3 1, .iconst 6, .iaload, .ireturn] ls st h := rfl
theorem eb_111_31 : jx_eb d 111 31 ls st h = jx_ev d 111 [.aload 0, .invokeinterface 3 1, .iconst 10, .iaload, .iconst (-1), .if_icmp .ne 61, .aload 0, .invokeinterface 3 5, .aload 0, .invokeinterface 3 1, .iconst 4, .iaload, .aload 0, .invokeinterface 3 1, .iconst 0, .iaload, .irem, .iaload, .ireturn] ls st h := rfl
theorem eb_111_61 : jx_eb d 111 61 ls st h = jx_ev d 111 [.iconst (-1), .istore 1, .jsr 0, .lstore 2, .iconst 0, .istore 4, .goto_w 68] ls st h := rfl
theorem eb_111_68 : jx_eb d 111 68 ls st h = jx_ev d 111 [.iload 4, .aload 0, .invokeinterface 3 1, .iconst 2, .iaload, .if_icmp .ge 106, .aload 0, .iload 4, .invokevirtual 31101, .lstore 5, .lload 5, .lload 2, .lcmp, .ifCond .le 100, .iload 4, .istore 1, .lload 5, .lstore 2, .goto_w 100] ls st h := rfl
theorem eb_111_100 : jx_eb d 111 100 ls st h = jx_ev d 111 [.iinc 4 1, .goto 68] ls st h := rfl
theorem eb_111_106 : jx_eb d 111 106 ls st h = jx_ev d 111 [.iload 1, .ireturn] ls st h := rfl
theorem cr_111 {r : Nat}  : jx_cr (d + 1) 111 [.ref r] h = jx_eb d 111 0 [.ref r, jx_un, jx_un, jx_un, jx_un, jx_un, jx_un] [] h := rfl
theorem eb_112_0 : jx_eb d 112 0 ls st h = jx_ev d 112 [.iload 0, .iload 1, .if_icmp .le 9, .iload 1, .goto 10] ls st h := rfl
theorem eb_112_9 : jx_eb d 112 9 ls st h = jx_ev d 112 [.iload 0, .goto_w 10] ls st h := rfl
theorem eb_112_10 : jx_eb d 112 10 ls st h = jx_ev d 112 [.ireturn] ls st h := rfl
theorem cr_112 {a1 : Int32} {a2 : Int32}  : jx_cr (d + 1) 112 [.int a1, .int a2] h = jx_eb d 112 0 [.int a1, .int a2] [] h := rfl
theorem eb_113_0 : jx_eb d 113 0 ls st h = jx_ev d 113 [.aload 0, .invokevirtual 31110, .istore 1, .iconst 0, .istore 2, .iconst 0, .istore 3, .goto_w 9] ls st h := rfl
theorem eb_113_9 : jx_eb d 113 9 ls st h = jx_ev d 113 [.iload 3, .aload 0, .invokeinterface 3 1, .iconst 3, .iaload, .if_icmp .ge 118, .aload 0, .invokeinterface 3 6, .iload 3, .aload 0, .invokeinterface 3 6, .iload 3, .iaload, .aload 0, .invokeinterface 3 7, .iload 3, .iaload, .iadd, .iconst 999, .invokestatic 1122, .iastore, .aload 0, .invokeinterface 3 6, .iload 3, .iaload, .aload 0, .invokeinterface 3 1, .iconst 1, .iaload, .if_icmp .lt 112, .iload 2, .iconst 1, .iload 3, .ishl, .ior, .istore 2, .aload 0, .invokeinterface 3 6, .iload 3, .iconst 0, .iastore, .aload 0, .invokeinterface 3 8, .iload 3, .dup2, .iaload, .iload 1, .iconst (-1), .if_icmp .ne 88, .iconst 0, .goto 91] ls st h := rfl
theorem eb_113_88 : jx_eb d 113 88 ls st h = jx_ev d 113 [.iconst 1, .iload 1, .ishl, .goto_w 91] ls st h := rfl
theorem eb_113_91 : jx_eb d 113 91 ls st h = jx_ev d 113 [.ior, .iastore, .aload 0, .invokeinterface 3 9, .iload 3, .dup2, .iaload, .iload 1, .iconst (-1), .if_icmp .ne 109, .iconst 1, .goto 110] ls st h := rfl
theorem eb_113_109 : jx_eb d 113 109 ls st h = jx_ev d 113 [.iconst 0, .goto_w 110] ls st h := rfl
theorem eb_113_110 : jx_eb d 113 110 ls st h = jx_ev d 113 [.iadd, .iastore, .goto_w 112] ls st h := rfl
theorem eb_113_112 : jx_eb d 113 112 ls st h = jx_ev d 113 [.iinc 3 1, .goto 9] ls st h := rfl
theorem eb_113_118 : jx_eb d 113 118 ls st h = jx_ev d 113 [.iload 1, .iconst (-1), .if_icmp .eq 133, .aload 0, .invokeinterface 3 4, .iload 1, .dup2, .iaload, .iconst 1, .iadd, .iastore, .goto_w 133] ls st h := rfl
theorem eb_113_133 : jx_eb d 113 133 ls st h = jx_ev d 113 [.aload 0, .invokeinterface 3 1, .iconst 5, .iload 1, .iastore, .aload 0, .invokeinterface 3 1, .iconst 6, .iconst (-1), .iastore, .aload 0, .invokeinterface 3 1, .iconst 7, .dup2, .iaload, .aload 0, .invokeinterface 3 1, .iconst 7, .iaload, .ifCond .le 170, .iconst 1, .goto 171] ls st h := rfl
theorem eb_113_170 : jx_eb d 113 170 ls st h = jx_ev d 113 [.iconst 0, .goto_w 171] ls st h := rfl
theorem eb_113_171 : jx_eb d 113 171 ls st h = jx_ev d 113 [.isub, .iastore, .aload 0, .invokeinterface 3 1, .iconst 4, .dup2, .iaload, .iconst 1, .iadd, .iastore, .iload 2, .ireturn] ls st h := rfl
theorem cr_113 {r : Nat}  : jx_cr (d + 1) 113 [.ref r] h = jx_eb d 113 0 [.ref r, jx_un, jx_un, jx_un] [] h := rfl
theorem eb_114_0 : jx_eb d 114 0 ls st h = jx_ev d 114 [.iconst 0, .istore 2, .goto_w 2] ls st h := rfl
theorem eb_114_2 : jx_eb d 114 2 ls st h = jx_ev d 114 [.iload 2, .iload 1, .if_icmp .ge 18, .aload 0, .invokevirtual 31130, .pop, .iinc 2 1, .goto 2] ls st h := rfl
theorem eb_114_18 : jx_eb d 114 18 ls st h = jx_ev d 114 [.return_] ls st h := rfl
theorem cr_114 {r : Nat} {a1 : Int32}  : jx_cr (d + 1) 114 [.ref r, .int a1] h = jx_eb d 114 0 [.ref r, .int a1, jx_un] [] h := rfl
theorem eb_115_0 : jx_eb d 115 0 ls st h = jx_ev d 115 [.aload 0, .invokeinterface 3 43, .ifCond .eq 19, .aload 0, .invokeinterface 3 39, .aload 0, .invokeinterface 3 42, .iaload, .goto 20] ls st h := rfl
theorem eb_115_19 : jx_eb d 115 19 ls st h = jx_ev d 115 [.iload 1, .goto_w 20] ls st h := rfl
theorem eb_115_20 : jx_eb d 115 20 ls st h = jx_ev d 115 [.istore 2, .aload 0, .invokeinterface 3 39, .aload 0, .invokeinterface 3 42, .iload 2, .iastore, .aload 0, .dup, .invokeinterface 3 42, .iconst 1, .iadd, .multianewarray 3 42, .iload 2, .ireturn] ls st h := rfl
theorem cr_115 {r : Nat} {a1 : Int32}  : jx_cr (d + 1) 115 [.ref r, .int a1] h = jx_eb d 115 0 [.ref r, .int a1, jx_un] [] h := rfl
theorem eb_116_0 : jx_eb d 116 0 ls st h = jx_ev d 116 [.iconst 0, .istore 2, .goto_w 2] ls st h := rfl
theorem eb_116_2 : jx_eb d 116 2 ls st h = jx_ev d 116 [.iload 2, .aload 1, .arraylength, .if_icmp .ge 24, .aload 1, .iload 2, .aload 0, .aload 1, .iload 2, .iaload, .invokevirtual 31151, .iastore, .iinc 2 1, .goto 2] ls st h := rfl
theorem eb_116_24 : jx_eb d 116 24 ls st h = jx_ev d 116 [.return_] ls st h := rfl
theorem cr_116 {r : Nat} {a1 : Value} (e1 : jx_ns a1 = true) : jx_cr (d + 1) 116 [.ref r, a1] h = jx_eb d 116 0 [.ref r, a1, jx_un] [] h := by
  have q : jx_PP.2.1 116 [.ref r, a1] = some [.ref r, a1, jx_un] := by
    show jx_le [false, false] 3 [.ref r, a1] = _
    simp only [jx_le, jx_la_f jx_ns_r, jx_la_f e1, jx_la_n, Option.map_some]
    rfl
  simp only [jx_cr, q]
theorem eb_117_0 : jx_eb d 117 0 ls st h = jx_ev d 117 [.aload 0, .iconst 28, .iload 1, .imul, .multianewarray 3 42, .aload 0, .iload 2, .multianewarray 3 343, .iconst 4, .istore 3, .goto_w 15] ls st h := rfl
theorem eb_117_15 : jx_eb d 117 15 ls st h = jx_ev d 117 [.iload 3, .iconst 8, .if_icmp .ge 43, .aload 0, .invokeinterface 3 1, .iload 3, .aload 0, .aload 0, .invokeinterface 3 1, .iload 3, .iaload, .invokevirtual 31151, .iastore, .iinc 3 1, .goto 15] ls st h := rfl
theorem eb_117_43 : jx_eb d 117 43 ls st h = jx_ev d 117 [.aload 0, .aload 0, .invokeinterface 3 4, .invokevirtual 31161, .aload 0, .aload 0, .invokeinterface 3 6, .invokevirtual 31161, .aload 0, .aload 0, .invokeinterface 3 8, .invokevirtual 31161, .aload 0, .aload 0, .invokeinterface 3 9, .invokevirtual 31161, .return_] ls st h := rfl
theorem cr_117 {r : Nat} {a1 : Int32} {a2 : Int32}  : jx_cr (d + 1) 117 [.ref r, .int a1, .int a2] h = jx_eb d 117 0 [.ref r, .int a1, .int a2, jx_un] [] h := rfl
theorem eb_118_0 : jx_eb d 118 0 ls st h = jx_ev d 118 [.aload 0, .invokeinterface 3 41, .iconst 20, .if_icmp .ne 50, .iconst 28, .istore 1, .goto_w 12] ls st h := rfl
theorem eb_118_12 : jx_eb d 118 12 ls st h = jx_ev d 118 [.iload 1, .iconst 560, .if_icmp .ge 40, .aload 0, .invokeinterface 3 39, .iload 1, .iconst 28, .isub, .aload 0, .invokeinterface 3 39, .iload 1, .iaload, .iastore, .iinc 1 1, .goto 12] ls st h := rfl
theorem eb_118_40 : jx_eb d 118 40 ls st h = jx_ev d 118 [.aload 0, .dup, .invokeinterface 3 41, .iconst 1, .isub, .multianewarray 3 41, .goto_w 50] ls st h := rfl
theorem eb_118_50 : jx_eb d 118 50 ls st h = jx_ev d 118 [.aload 0, .aload 0, .invokeinterface 3 41, .iconst 0, .invokevirtual 31172, .aload 0, .dup, .invokeinterface 3 41, .iconst 1, .iadd, .multianewarray 3 41, .return_] ls st h := rfl
theorem cr_118 {r : Nat}  : jx_cr (d + 1) 118 [.ref r] h = jx_eb d 118 0 [.ref r, jx_un] [] h := rfl
theorem eb_119_0 : jx_eb d 119 0 ls st h = jx_ev d 119 [.aload 0, .invokeinterface 3 41, .ifCond .ne 10, .iconst (-2), .ireturn] ls st h := rfl
theorem eb_119_10 : jx_eb d 119 10 ls st h = jx_ev d 119 [.aload 0, .dup, .invokeinterface 3 41, .iconst 1, .isub, .multianewarray 3 41, .aload 0, .aload 0, .invokeinterface 3 41, .iconst 1, .invokevirtual 31172, .aload 0, .invokeinterface 3 41, .ireturn] ls st h := rfl
theorem cr_119 {r : Nat}  : jx_cr (d + 1) 119 [.ref r] h = jx_eb d 119 0 [.ref r] [] h := rfl
theorem eb_120_0 : jx_eb d 120 0 ls st h = jx_ev d 120 [.aload 0, .invokevirtual 30600, .ifCond .eq 19, .aload 0, .invokeinterface 3 1, .iconst 4, .iaload, .iconst 999, .if_icmp .ne 21, .goto_w 19] ls st h := rfl
theorem eb_120_19 : jx_eb d 120 19 ls st h = jx_ev d 120 [.iconst (-1), .ireturn] ls st h := rfl
theorem eb_120_21 : jx_eb d 120 21 ls st h = jx_ev d 120 [.aload 0, .invokevirtual 31180, .aload 0, .invokevirtual 31130, .ireturn] ls st h := rfl
theorem cr_120 {r : Nat}  : jx_cr (d + 1) 120 [.ref r] h = jx_eb d 120 0 [.ref r] [] h := rfl
theorem eb_121_0 : jx_eb d 121 0 ls st h = jx_ev d 121 [.aload 0, .iload 1, .invokevirtual 30621, .ifCond .eq 20, .iload 2, .i2l, .jsr 1, .jsr 99, .invokestatic 573, .ifCond .ne 22, .goto_w 20] ls st h := rfl
theorem eb_121_20 : jx_eb d 121 20 ls st h = jx_ev d 121 [.iconst (-1), .ireturn] ls st h := rfl
theorem eb_121_22 : jx_eb d 121 22 ls st h = jx_ev d 121 [.aload 0, .invokevirtual 31180, .aload 0, .invokeinterface 3 6, .iload 1, .aload 0, .invokeinterface 3 6, .iload 1, .iaload, .iload 2, .iadd, .iconst 999, .invokestatic 1122, .iastore, .aload 0, .invokeinterface 3 6, .iload 1, .iaload, .ireturn] ls st h := rfl
theorem cr_121 {r : Nat} {a1 : Int32} {a2 : Int32}  : jx_cr (d + 1) 121 [.ref r, .int a1, .int a2] h = jx_eb d 121 0 [.ref r, .int a1, .int a2] [] h := rfl
theorem eb_122_0 : jx_eb d 122 0 ls st h = jx_ev d 122 [.aload 0, .iload 1, .invokevirtual 30621, .ifCond .eq 30, .iload 2, .i2l, .jsr 1, .jsr 99, .invokestatic 573, .ifCond .eq 30, .aload 0, .invokeinterface 3 6, .iload 1, .iaload, .iload 2, .if_icmp .ge 32, .goto_w 30] ls st h := rfl
theorem eb_122_30 : jx_eb d 122 30 ls st h = jx_ev d 122 [.iconst (-1), .ireturn] ls st h := rfl
theorem eb_122_32 : jx_eb d 122 32 ls st h = jx_ev d 122 [.aload 0, .invokevirtual 31180, .aload 0, .invokeinterface 3 6, .iload 1, .dup2, .iaload, .iload 2, .isub, .iastore, .aload 0, .invokeinterface 3 6, .iload 1, .iaload, .ireturn] ls st h := rfl
theorem cr_122 {r : Nat} {a1 : Int32} {a2 : Int32}  : jx_cr (d + 1) 122 [.ref r, .int a1, .int a2] h = jx_eb d 122 0 [.ref r, .int a1, .int a2] [] h := rfl
theorem eb_123_0 : jx_eb d 123 0 ls st h = jx_ev d 123 [.aload 0, .invokevirtual 30600, .ifCond .eq 31, .iload 1, .iconst (-1), .if_icmp .eq 20, .aload 0, .iload 1, .invokevirtual 30611, .ifCond .eq 31, .goto_w 20] ls st h := rfl
theorem eb_123_20 : jx_eb d 123 20 ls st h = jx_ev d 123 [.iload 1, .aload 0, .invokeinterface 3 1, .iconst 6, .iaload, .if_icmp .ne 34, .goto_w 31] ls st h := rfl
theorem eb_123_31 : jx_eb d 123 31 ls st h = jx_ev d 123 [.iconst (-2), .ireturn] ls st h := rfl
theorem eb_123_34 : jx_eb d 123 34 ls st h = jx_ev d 123 [.aload 0, .invokevirtual 31180, .aload 0, .invokeinterface 3 1, .iconst 6, .iaload, .istore 2, .aload 0, .invokeinterface 3 1, .iconst 6, .iload 1, .iastore, .iload 2, .ireturn] ls st h := rfl
theorem cr_123 {r : Nat} {a1 : Int32}  : jx_cr (d + 1) 123 [.ref r, .int a1] h = jx_eb d 123 0 [.ref r, .int a1, jx_un] [] h := rfl
theorem eb_124_0 : jx_eb d 124 0 ls st h = jx_ev d 124 [.aload 0, .invokevirtual 30600, .ifCond .eq 19, .iload 1, .i2l, .jsr 1, .jsr 9, .invokestatic 573, .ifCond .ne 21, .goto_w 19] ls st h := rfl
theorem eb_124_19 : jx_eb d 124 19 ls st h = jx_ev d 124 [.iconst (-1), .ireturn] ls st h := rfl
theorem eb_124_21 : jx_eb d 124 21 ls st h = jx_ev d 124 [.aload 0, .invokevirtual 31180, .aload 0, .invokeinterface 3 1, .iconst 7, .iaload, .istore 2, .aload 0, .invokeinterface 3 1, .iconst 7, .iload 1, .iastore, .iload 2, .ireturn] ls st h := rfl
theorem cr_124 {r : Nat} {a1 : Int32}  : jx_cr (d + 1) 124 [.ref r, .int a1] h = jx_eb d 124 0 [.ref r, .int a1, jx_un] [] h := rfl
theorem eb_125_0 : jx_eb d 125 0 ls st h = jx_ev d 125 [.aload 0, .iload 1, .invokevirtual 30621, .ifCond .eq 29, .aload 0, .iload 2, .invokevirtual 30611, .ifCond .eq 29, .aload 0, .invokeinterface 3 8, .iload 1, .iaload, .iload 2, .invokestatic 592, .ifCond .ne 31, .goto_w 29] ls st h := rfl
theorem eb_125_29 : jx_eb d 125 29 ls st h = jx_ev d 125 [.iconst (-1), .ireturn] ls st h := rfl
theorem eb_125_31 : jx_eb d 125 31 ls st h = jx_ev d 125 [.aload 0, .invokevirtual 31180, .aload 0, .invokeinterface 3 8, .iload 1, .dup2, .iaload, .iconst 1, .iload 2, .ishl, .iconst (-1), .ixor, .iand, .iastore, .aload 0, .invokeinterface 3 8, .iload 1, .iaload, .ireturn] ls st h := rfl
theorem cr_125 {r : Nat} {a1 : Int32} {a2 : Int32}  : jx_cr (d + 1) 125 [.ref r, .int a1, .int a2] h = jx_eb d 125 0 [.ref r, .int a1, .int a2] [] h := rfl
theorem eb_126_0 : jx_eb d 126 0 ls st h = jx_ev d 126 [.aload 0, .iconst 4, .iconst 0, .invokevirtual 31572, .return_] ls st h := rfl
theorem cr_126 {r : Nat}  : jx_cr (d + 1) 126 [.ref r] h = jx_eb d 126 0 [.ref r] [] h := rfl
theorem eb_127_0 : jx_eb d 127 0 ls st h = jx_ev d 127 [.aload 0, .iconst 4, .iconst 1, .invokevirtual 31572, .return_] ls st h := rfl
theorem cr_127 {r : Nat}  : jx_cr (d + 1) 127 [.ref r] h = jx_eb d 127 0 [.ref r] [] h := rfl
theorem eb_128_0 : jx_eb d 128 0 ls st h = jx_ev d 128 [.iload 3, .ifCond .eq 24, .iload 3, .i2l, .jsr 1, .jsr 2, .invokestatic 573, .ifCond .eq 28, .aload 0, .iload 1, .invokevirtual 30621, .ifCond .eq 28, .goto_w 24] ls st h := rfl
theorem eb_128_24 : jx_eb d 128 24 ls st h = jx_ev d 128 [.iconst 1, .goto 29] ls st h := rfl
theorem eb_128_28 : jx_eb d 128 28 ls st h = jx_ev d 128 [.iconst 0, .goto_w 29] ls st h := rfl
theorem eb_128_29 : jx_eb d 128 29 ls st h = jx_ev d 128 [.istore 4, .aload 0, .invokevirtual 30600, .ifCond .eq 55, .iload 4, .ifCond .eq 55, .iload 2, .i2l, .jsr 0, .jsr 100, .invokestatic 573, .ifCond .ne 58, .goto_w 55] ls st h := rfl
theorem eb_128_55 : jx_eb d 128 55 ls st h = jx_ev d 128 [.iconst (-2), .ireturn] ls st h := rfl
theorem eb_128_58 : jx_eb d 128 58 ls st h = jx_ev d 128 [.aload 0, .invokevirtual 31260, .aload 0, .iload 2, .invokevirtual 31141, .iload 3, .ifCond .ne 78, .aload 0, .invokevirtual 31110, .goto 98] ls st h := rfl
theorem eb_128_78 : jx_eb d 128 78 ls st h = jx_ev d 128 [.iload 3, .iconst 1, .if_icmp .ne 92, .aload 0, .invokeinterface 3 8, .iload 1, .iaload, .goto 98] ls st h := rfl
theorem eb_128_92 : jx_eb d 128 92 ls st h = jx_ev d 128 [.aload 0, .invokeinterface 3 6, .iload 1, .iaload, .goto_w 98] ls st h := rfl
theorem eb_128_98 : jx_eb d 128 98 ls st h = jx_ev d 128 [.istore 5, .aload 0, .invokevirtual 31270, .iload 5, .ireturn] ls st h := rfl
theorem cr_128 {r : Nat} {a1 : Int32} {a2 : Int32} {a3 : Int32}  : jx_cr (d + 1) 128 [.ref r, .int a1, .int a2, .int a3] h = jx_eb d 128 0 [.ref r, .int a1, .int a2, .int a3, jx_un, jx_un] [] h := rfl
theorem eb_129_0 : jx_eb d 129 0 ls st h = jx_ev d 129 [.aload 0, .iload 1, .invokevirtual 30621, .ifCond .eq 18, .iload 2, .i2l, .jsr 0, .jsr 1, .invokestatic 573, .ifCond .ne 21, .goto_w 18] ls st h := rfl
theorem eb_129_18 : jx_eb d 129 18 ls st h = jx_ev d 129 [.iconst (-3), .ireturn] ls st h := rfl
theorem eb_129_21 : jx_eb d 129 21 ls st h = jx_ev d 129 [.aload 0, .invokevirtual 31260, .iconst (-2), .istore 3, .iconst 0, .istore 4, .goto_w 31] ls st h := rfl
theorem eb_129_31 : jx_eb d 129 31 ls st h = jx_ev d 129 [.iload 4, .iconst 100, .if_icmp .ge 70, .iload 3, .iconst (-2), .if_icmp .ne 70, .aload 0, .invokevirtual 31130, .iload 1, .invokestatic 592, .ifCond .eq 64, .aload 0, .invokeinterface 3 1, .iconst 4, .iaload, .iconst 1, .isub, .istore 3, .goto_w 64] ls st h := rfl
theorem eb_129_64 : jx_eb d 129 64 ls st h = jx_ev d 129 [.iinc 4 1, .goto 31] ls st h := rfl
theorem eb_129_70 : jx_eb d 129 70 ls st h = jx_ev d 129 [.iload 3, .iconst (-2), .if_icmp .ne 81, .iconst (-2), .goto 87] ls st h := rfl
theorem eb_129_81 : jx_eb d 129 81 ls st h = jx_ev d 129 [.aload 0, .invokeinterface 3 1, .iconst 5, .iaload, .goto_w 87] ls st h := rfl
theorem eb_129_87 : jx_eb d 129 87 ls st h = jx_ev d 129 [.istore 4, .aload 0, .invokevirtual 31270, .iload 2, .ifCond .ne 101, .iload 3, .goto 103] ls st h := rfl
theorem eb_129_101 : jx_eb d 129 101 ls st h = jx_ev d 129 [.iload 4, .goto_w 103] ls st h := rfl
theorem eb_129_103 : jx_eb d 129 103 ls st h = jx_ev d 129 [.ireturn] ls st h := rfl
theorem cr_129 {r : Nat} {a1 : Int32} {a2 : Int32}  : jx_cr (d + 1) 129 [.ref r, .int a1, .int a2] h = jx_eb d 129 0 [.ref r, .int a1, .int a2, jx_un, jx_un] [] h := rfl
theorem eb_130_0 : jx_eb d 130 0 ls st h = jx_ev d 130 [.aload 0, .iload 1, .invokevirtual 30621, .ifCond .eq 28, .aload 0, .iload 2, .invokevirtual 30611, .ifCond .eq 28, .iload 3, .i2l, .jsr 1, .jsr 60, .invokestatic 573, .ifCond .ne 30, .goto_w 28] ls st h := rfl
theorem eb_130_28 : jx_eb d 130 28 ls st h = jx_ev d 130 [.iconst (-1), .ireturn] ls st h := rfl
theorem eb_130_30 : jx_eb d 130 30 ls st h = jx_ev d 130 [.aload 0, .invokevirtual 31260, .iconst (-2), .istore 4, .iconst 0, .istore 5, .goto_w 41] ls st h := rfl
theorem eb_130_41 : jx_eb d 130 41 ls st h = jx_ev d 130 [.iload 5, .iconst 200, .if_icmp .gt 114, .iload 4, .iconst (-2), .if_icmp .ne 114, .aload 0, .invokeinterface 3 6, .iload 1, .aload 0, .invokeinterface 3 6, .iload 1, .iaload, .iload 5, .iadd, .iconst 999, .invokestatic 1122, .iastore, .aload 0, .iload 3, .invokevirtual 31141, .aload 0, .invokeinterface 3 8, .iload 1, .iaload, .iload 2, .invokestatic 592, .ifCond .eq 100, .iload 5, .goto 102] ls st h := rfl
theorem eb_130_100 : jx_eb d 130 100 ls st h = jx_ev d 130 [.iconst (-2), .goto_w 102] ls st h := rfl
theorem eb_130_102 : jx_eb d 130 102 ls st h = jx_ev d 130 [.istore 4, .aload 0, .invokevirtual 31270, .iinc 5 1, .goto 41] ls st h := rfl
theorem eb_130_114 : jx_eb d 130 114 ls st h = jx_ev d 130 [.iload 4, .ireturn] ls st h := rfl
theorem cr_130 {r : Nat} {a1 : Int32} {a2 : Int32} {a3 : Int32}  : jx_cr (d + 1) 130 [.ref r, .int a1, .int a2, .int a3] h = jx_eb d 130 0 [.ref r, .int a1, .int a2, .int a3, jx_un, jx_un] [] h := rfl
theorem eb_131_0 : jx_eb d 131 0 ls st h = jx_ev d 131 [.iconst 1, .istore 4, .iconst 0, .istore 5, .goto_w 6] ls st h := rfl
theorem eb_131_6 : jx_eb d 131 6 ls st h = jx_ev d 131 [.iload 5, .iload 2, .if_icmp .ge 80, .aload 0, .invokeinterface 3 1, .iconst 7, .iload 3, .iload 5, .invokestatic 592, .ifCond .eq 31, .iconst 1, .goto 32] ls st h := rfl
theorem eb_131_31 : jx_eb d 131 31 ls st h = jx_ev d 131 [.iconst 0, .goto_w 32] ls st h := rfl
theorem eb_131_32 : jx_eb d 131 32 ls st h = jx_ev d 131 [.iastore, .aload 0, .invokevirtual 31130, .ifCond .eq 44, .iconst 1, .goto 45] ls st h := rfl
theorem eb_131_44 : jx_eb d 131 44 ls st h = jx_ev d 131 [.iconst 0, .goto_w 45] ls st h := rfl
theorem eb_131_45 : jx_eb d 131 45 ls st h = jx_ev d 131 [.istore 6, .iload 4, .ifCond .eq 71, .iload 6, .ifCond .eq 67, .aload 0, .invokeinterface 3 1, .iconst 5, .iaload, .iload 1, .if_icmp .eq 71, .goto_w 67] ls st h := rfl
theorem eb_131_67 : jx_eb d 131 67 ls st h = jx_ev d 131 [.iconst 1, .goto 72] ls st h := rfl
theorem eb_131_71 : jx_eb d 131 71 ls st h = jx_ev d 131 [.iconst 0, .goto_w 72] ls st h := rfl
theorem eb_131_72 : jx_eb d 131 72 ls st h = jx_ev d 131 [.istore 4, .iinc 5 1, .goto 6] ls st h := rfl
theorem eb_131_80 : jx_eb d 131 80 ls st h = jx_ev d 131 [.aload 0, .invokevirtual 31270, .iload 4, .freturn] ls st h := rfl
theorem cr_131 {r : Nat} {a1 : Int32} {a2 : Int32} {a3 : Int32}  : jx_cr (d + 1) 131 [.ref r, .int a1, .int a2, .int a3] h = jx_eb d 131 0 [.ref r, .int a1, .int a2, .int a3, jx_un, jx_un, jx_un] [] h := rfl
theorem eb_132_0 : jx_eb d 132 0 ls st h = jx_ev d 132 [.aload 0, .iload 1, .invokevirtual 30611, .ifCond .eq 30, .iload 2, .i2l, .jsr 1, .jsr 8, .invokestatic 573, .ifCond .eq 30, .iload 3, .i2l, .jsr 0, .jsr 1, .invokestatic 573, .ifCond .ne 32, .goto_w 30] ls st h := rfl
theorem eb_132_30 : jx_eb d 132 30 ls st h = jx_ev d 132 [.iconst (-1), .ireturn] ls st h := rfl
theorem eb_132_32 : jx_eb d 132 32 ls st h = jx_ev d 132 [.iconst 1, .iload 2, .ishl, .iconst 1, .isub, .istore 4, .aload 0, .invokevirtual 31260, .iconst 0, .istore 5, .goto_w 46] ls st h := rfl
theorem eb_132_46 : jx_eb d 132 46 ls st h = jx_ev d 132 [.iload 5, .iconst 1, .iload 2, .ishl, .if_icmp .ge 93, .iload 5, .invokestatic 581, .iload 4, .invokestatic 581, .if_icmp .ge 87, .aload 0, .iload 1, .iload 2, .iload 5, .invokevirtual 31313, .ifCond .eq 83, .iload 5, .goto 85] ls st h := rfl
theorem eb_132_83 : jx_eb d 132 83 ls st h = jx_ev d 132 [.iload 4, .goto_w 85] ls st h := rfl
theorem eb_132_85 : jx_eb d 132 85 ls st h = jx_ev d 132 [.istore 4, .goto_w 87] ls st h := rfl
theorem eb_132_87 : jx_eb d 132 87 ls st h = jx_ev d 132 [.iinc 5 1, .goto 46] ls st h := rfl
theorem eb_132_93 : jx_eb d 132 93 ls st h = jx_ev d 132 [.iload 3, .ifCond .ne 105, .iload 4, .invokestatic 581, .goto 107] ls st h := rfl
theorem eb_132_105 : jx_eb d 132 105 ls st h = jx_ev d 132 [.iload 4, .goto_w 107] ls st h := rfl
theorem eb_132_107 : jx_eb d 132 107 ls st h = jx_ev d 132 [.ireturn] ls st h := rfl
theorem cr_132 {r : Nat} {a1 : Int32} {a2 : Int32} {a3 : Int32}  : jx_cr (d + 1) 132 [.ref r, .int a1, .int a2, .int a3] h = jx_eb d 132 0 [.ref r, .int a1, .int a2, .int a3, jx_un, jx_un] [] h := rfl
theorem eb_133_0 : jx_eb d 133 0 ls st h = jx_ev d 133 [.aload 0, .iload 1, .invokevirtual 30621, .ifCond .eq 30, .iload 2, .i2l, .jsr 1, .jsr 60, .invokestatic 573, .ifCond .eq 30, .iload 3, .i2l, .jsr 0, .jsr 1, .invokestatic 573, .ifCond .ne 33, .goto_w 30] ls st h := rfl
theorem eb_133_30 : jx_eb d 133 30 ls st h = jx_ev d 133 [.iconst (-2), .ireturn] ls st h := rfl
theorem eb_133_33 : jx_eb d 133 33 ls st h = jx_ev d 133 [.iconst (-1), .istore 4, .iconst (-1), .istore 5, .aload 0, .invokevirtual 31260, .iconst (-1), .istore 6, .goto_w 46] ls st h := rfl
theorem eb_133_46 : jx_eb d 133 46 ls st h = jx_ev d 133 [.iload 6, .aload 0, .invokeinterface 3 1, .iconst 2, .iaload, .if_icmp .ge 102, .aload 0, .invokeinterface 3 1, .iconst 6, .iload 6, .iastore, .aload 0, .iload 2, .invokevirtual 31141, .aload 0, .iload 1, .invokevirtual 31071, .iload 5, .if_icmp .le 92, .iload 6, .istore 4, .aload 0, .iload 1, .invokevirtual 31071, .istore 5, .goto_w 92] ls st h := rfl
theorem eb_133_92 : jx_eb d 133 92 ls st h = jx_ev d 133 [.aload 0, .invokevirtual 31270, .iinc 6 1, .goto 46] ls st h := rfl
theorem eb_133_102 : jx_eb d 133 102 ls st h = jx_ev d 133 [.iload 3, .ifCond .ne 111, .iload 4, .goto 113] ls st h := rfl
theorem eb_133_111 : jx_eb d 133 111 ls st h = jx_ev d 133 [.iload 5, .goto_w 113] ls st h := rfl
theorem eb_133_113 : jx_eb d 133 113 ls st h = jx_ev d 133 [.ireturn] ls st h := rfl
theorem cr_133 {r : Nat} {a1 : Int32} {a2 : Int32} {a3 : Int32}  : jx_cr (d + 1) 133 [.ref r, .int a1, .int a2, .int a3] h = jx_eb d 133 0 [.ref r, .int a1, .int a2, .int a3, jx_un, jx_un, jx_un] [] h := rfl
theorem eb_134_0 : jx_eb d 134 0 ls st h = jx_ev d 134 [.aload 0, .invokevirtual 30600, .ifCond .eq 33, .iload 1, .i2l, .jsr 1, .jsr 100, .invokestatic 573, .ifCond .eq 33, .iload 2, .iconst 6, .if_icmp .eq 35, .aload 0, .iload 2, .invokevirtual 30611, .ifCond .ne 35, .goto_w 33] ls st h := rfl
theorem eb_134_33 : jx_eb d 134 33 ls st h = jx_ev d 134 [.iconst (-1), .ireturn] ls st h := rfl
theorem eb_134_35 : jx_eb d 134 35 ls st h = jx_ev d 134 [.iconst 0, .istore 3, .goto_w 37] ls st h := rfl
theorem eb_134_37 : jx_eb d 134 37 ls st h = jx_ev d 134 [.iload 3, .iconst 6, .if_icmp .ge 56, .aload 0, .invokeinterface 3 44, .iload 3, .iconst 0, .iastore, .iinc 3 1, .goto 37] ls st h := rfl
theorem eb_134_56 : jx_eb d 134 56 ls st h = jx_ev d 134 [.aload 0, .invokevirtual 31260, .iconst 0, .istore 3, .goto_w 62] ls st h := rfl
theorem eb_134_62 : jx_eb d 134 62 ls st h = jx_ev d 134 [.iload 3, .iload 1, .if_icmp .ge 103, .aload 0, .invokevirtual 31130, .pop, .aload 0, .invokeinterface 3 1, .iconst 5, .iaload, .iconst (-1), .if_icmp .eq 97, .aload 0, .invokeinterface 3 44, .aload 0, .invokeinterface 3 1, .iconst 5, .iaload, .dup2, .iaload, .iconst 1, .iadd, .iastore, .goto_w 97] ls st h := rfl
theorem eb_134_97 : jx_eb d 134 97 ls st h = jx_ev d 134 [.iinc 3 1, .goto 62] ls st h := rfl
theorem eb_134_103 : jx_eb d 134 103 ls st h = jx_ev d 134 [.aload 0, .invokevirtual 31270, .iconst 0, .istore 3, .iconst 0, .istore 4, .goto_w 112] ls st h := rfl
theorem eb_134_112 : jx_eb d 134 112 ls st h = jx_ev d 134 [.iload 4, .aload 0, .invokeinterface 3 1, .iconst 2, .iaload, .if_icmp .ge 150, .iload 3, .aload 0, .invokeinterface 3 44, .iload 4, .iaload, .ifCond .ne 141, .iconst 1, .iload 4, .ishl, .goto 142] ls st h := rfl
theorem eb_134_141 : jx_eb d 134 141 ls st h = jx_ev d 134 [.iconst 0, .goto_w 142] ls st h := rfl
theorem eb_134_142 : jx_eb d 134 142 ls st h = jx_ev d 134 [.ior, .istore 3, .iinc 4 1, .goto 112] ls st h := rfl
theorem eb_134_150 : jx_eb d 134 150 ls st h = jx_ev d 134 [.iload 2, .iconst 6, .if_icmp .ne 160, .iload 3, .goto 166] ls st h := rfl
theorem eb_134_160 : jx_eb d 134 160 ls st h = jx_ev d 134 [.aload 0, .invokeinterface 3 44, .iload 2, .iaload, .goto_w 166] ls st h := rfl
theorem eb_134_166 : jx_eb d 134 166 ls st h = jx_ev d 134 [.ireturn] ls st h := rfl
theorem cr_134 {r : Nat} {a1 : Int32} {a2 : Int32}  : jx_cr (d + 1) 134 [.ref r, .int a1, .int a2] h = jx_eb d 134 0 [.ref r, .int a1, .int a2, jx_un, jx_un] [] h := rfl
theorem eb_135_0 : jx_eb d 135 0 ls st h = jx_ev d 135 [.aload 0, .iload 1, .invokevirtual 30621, .ifCond .ne 10, .iconst (-1), .ireturn] ls st h := rfl
theorem eb_135_10 : jx_eb d 135 10 ls st h = jx_ev d 135 [.iconst 0, .istore 2, .iconst 0, .istore 3, .goto_w 14] ls st h := rfl
theorem eb_135_14 : jx_eb d 135 14 ls st h = jx_ev d 135 [.iload 3, .aload 0, .invokeinterface 3 1, .iconst 3, .iaload, .if_icmp .ge 69, .iload 2, .aload 0, .iload 3, .invokevirtual 31071, .aload 0, .iload 1, .invokevirtual 31071, .if_icmp .gt 56, .aload 0, .iload 3, .invokevirtual 31071, .aload 0, .iload 1, .invokevirtual 31071, .if_icmp .ne 60, .iload 3, .iload 1, .if_icmp .ge 60, .goto_w 56] ls st h := rfl
theorem eb_135_56 : jx_eb d 135 56 ls st h = jx_ev d 135 [.iconst 1, .goto 61] ls st h := rfl
theorem eb_135_60 : jx_eb d 135 60 ls st h = jx_ev d 135 [.iconst 0, .goto_w 61] ls st h := rfl
theorem eb_135_61 : jx_eb d 135 61 ls st h = jx_ev d 135 [.iadd, .istore 2, .iinc 3 1, .goto 14] ls st h := rfl
theorem eb_135_69 : jx_eb d 135 69 ls st h = jx_ev d 135 [.iload 2, .ireturn] ls st h := rfl
theorem cr_135 {r : Nat} {a1 : Int32}  : jx_cr (d + 1) 135 [.ref r, .int a1] h = jx_eb d 135 0 [.ref r, .int a1, jx_un, jx_un] [] h := rfl
theorem eb_136_0 : jx_eb d 136 0 ls st h = jx_ev d 136 [.iconst 0, .istore 3, .goto_w 2] ls st h := rfl
theorem eb_136_2 : jx_eb d 136 2 ls st h = jx_ev d 136 [.iload 3, .aload 0, .invokeinterface 3 1, .iconst 2, .iaload, .if_icmp .ge 49, .aload 0, .invokeinterface 3 8, .iload 1, .iaload, .iload 3, .invokestatic 592, .ifCond .eq 43, .aload 0, .invokeinterface 3 3, .iload 3, .iaload, .aload 0, .invokeinterface 3 8, .iload 2, .iaload, .iand, .ifCond .eq 43, .iconst 1, .freturn] ls st h := rfl
theorem eb_136_43 : jx_eb d 136 43 ls st h = jx_ev d 136 [.iinc 3 1, .goto 2] ls st h := rfl
theorem eb_136_49 : jx_eb d 136 49 ls st h = jx_ev d 136 [.iconst 0, .freturn] ls st h := rfl
theorem cr_136 {r : Nat} {a1 : Int32} {a2 : Int32}  : jx_cr (d + 1) 136 [.ref r, .int a1, .int a2] h = jx_eb d 136 0 [.ref r, .int a1, .int a2, jx_un] [] h := rfl
theorem eb_137_0 : jx_eb d 137 0 ls st h = jx_ev d 137 [.iconst 0, .istore 2, .goto_w 2] ls st h := rfl
theorem eb_137_2 : jx_eb d 137 2 ls st h = jx_ev d 137 [.iload 2, .aload 0, .invokeinterface 3 1, .iconst 3, .iaload, .if_icmp .ge 63, .iload 2, .istore 3, .goto_w 14] ls st h := rfl
theorem eb_137_14 : jx_eb d 137 14 ls st h = jx_ev d 137 [.iload 3, .aload 0, .invokeinterface 3 1, .iconst 3, .iaload, .if_icmp .ge 57, .iload 1, .iload 2, .invokestatic 592, .ifCond .ne 51, .iload 1, .iload 3, .invokestatic 592, .ifCond .ne 51, .aload 0, .iload 2, .iload 3, .invokevirtual 31362, .ifCond .eq 51, .iconst 0, .freturn] ls st h := rfl
theorem eb_137_51 : jx_eb d 137 51 ls st h = jx_ev d 137 [.iinc 3 1, .goto 14] ls st h := rfl
theorem eb_137_57 : jx_eb d 137 57 ls st h = jx_ev d 137 [.iinc 2 1, .goto 2] ls st h := rfl
theorem eb_137_63 : jx_eb d 137 63 ls st h = jx_ev d 137 [.iconst 1, .freturn] ls st h := rfl
theorem cr_137 {r : Nat} {a1 : Int32}  : jx_cr (d + 1) 137 [.ref r, .int a1] h = jx_eb d 137 0 [.ref r, .int a1, jx_un, jx_un] [] h := rfl
theorem eb_138_0 : jx_eb d 138 0 ls st h = jx_ev d 138 [.aload 0, .invokevirtual 30600, .ifCond .eq 17, .iload 1, .i2l, .jsr 0, .jsr 1, .invokestatic 573, .ifCond .ne 19, .goto_w 17] ls st h := rfl
theorem eb_138_17 : jx_eb d 138 17 ls st h = jx_ev d 138 [.iconst (-1), .ireturn] ls st h := rfl
theorem eb_138_19 : jx_eb d 138 19 ls st h = jx_ev d 138 [.iconst 1, .aload 0, .invokeinterface 3 1, .iconst 3, .iaload, .ishl, .iconst 1, .isub, .istore 2, .iconst 0, .istore 3, .goto_w 32] ls st h := rfl
theorem eb_138_32 : jx_eb d 138 32 ls st h = jx_ev d 138 [.iload 3, .iconst 1, .aload 0, .invokeinterface 3 1, .iconst 3, .iaload, .ishl, .if_icmp .ge 71, .iload 3, .invokestatic 581, .iload 2, .invokestatic 581, .if_icmp .ge 65, .aload 0, .iload 3, .invokevirtual 31371, .ifCond .eq 65, .iload 3, .istore 2, .goto_w 65] ls st h := rfl
theorem eb_138_65 : jx_eb d 138 65 ls st h = jx_ev d 138 [.iinc 3 1, .goto 32] ls st h := rfl
theorem eb_138_71 : jx_eb d 138 71 ls st h = jx_ev d 138 [.iload 1, .ifCond .ne 82, .iload 2, .invokestatic 581, .goto 83] ls st h := rfl
theorem eb_138_82 : jx_eb d 138 82 ls st h = jx_ev d 138 [.iload 2, .goto_w 83] ls st h := rfl
theorem eb_138_83 : jx_eb d 138 83 ls st h = jx_ev d 138 [.ireturn] ls st h := rfl
theorem cr_138 {r : Nat} {a1 : Int32}  : jx_cr (d + 1) 138 [.ref r, .int a1] h = jx_eb d 138 0 [.ref r, .int a1, jx_un, jx_un] [] h := rfl
theorem eb_139_0 : jx_eb d 139 0 ls st h = jx_ev d 139 [.aload 0, .iload 2, .invokevirtual 30621, .ifCond .eq 20, .iload 1, .i2l, .jsr 0, .jsr 9999, .invokestatic 573, .ifCond .ne 22, .goto_w 20] ls st h := rfl
theorem eb_139_20 : jx_eb d 139 20 ls st h = jx_ev d 139 [.iconst (-1), .ireturn] ls st h := rfl
theorem eb_139_22 : jx_eb d 139 22 ls st h = jx_ev d 139 [.iconst 0, .istore 3, .iconst 0, .istore 4, .goto_w 27] ls st h := rfl
theorem eb_139_27 : jx_eb d 139 27 ls st h = jx_ev d 139 [.iload 4, .aload 0, .invokeinterface 3 1, .iconst 3, .iaload, .if_icmp .ge 53, .iload 3, .aload 0, .iload 4, .invokevirtual 31071, .iadd, .istore 3, .iinc 4 1, .goto 27] ls st h := rfl
theorem eb_139_53 : jx_eb d 139 53 ls st h = jx_ev d 139 [.iload 3, .ifCond .ne 59, .iconst 0, .ireturn] ls st h := rfl
theorem eb_139_59 : jx_eb d 139 59 ls st h = jx_ev d 139 [.iload 1, .istore 4, .iconst 0, .istore 5, .iconst 0, .istore 6, .goto_w 68] ls st h := rfl
theorem eb_139_68 : jx_eb d 139 68 ls st h = jx_ev d 139 [.iload 6, .aload 0, .invokeinterface 3 1, .iconst 3, .iaload, .if_icmp .ge 148, .iload 4, .iload 1, .aload 0, .iload 6, .invokevirtual 31071, .imul, .iload 3, .idiv, .isub, .istore 4, .iload 1, .aload 0, .iload 6, .invokevirtual 31071, .imul, .iload 3, .irem, .iload 1, .aload 0, .iload 2, .invokevirtual 31071, .imul, .iload 3, .irem, .isub, .istore 7, .iload 5, .iload 7, .ifCond .gt 134, .iload 7, .ifCond .ne 138, .iload 6, .iload 2, .if_icmp .ge 138, .goto_w 134] ls st h := rfl
theorem eb_139_134 : jx_eb d 139 134 ls st h = jx_ev d 139 [.iconst 1, .goto 139] ls st h := rfl
theorem eb_139_138 : jx_eb d 139 138 ls st h = jx_ev d 139 [.iconst 0, .goto_w 139] ls st h := rfl
theorem eb_139_139 : jx_eb d 139 139 ls st h = jx_ev d 139 [.iadd, .istore 5, .iinc 6 1, .goto 68] ls st h := rfl
theorem eb_139_148 : jx_eb d 139 148 ls st h = jx_ev d 139 [.iload 1, .aload 0, .iload 2, .invokevirtual 31071, .imul, .iload 3, .idiv, .iload 5, .iload 4, .if_icmp .ge 168, .iconst 1, .goto 169] ls st h := rfl
theorem eb_139_168 : jx_eb d 139 168 ls st h = jx_ev d 139 [.iconst 0, .goto_w 169] ls st h := rfl
theorem eb_139_169 : jx_eb d 139 169 ls st h = jx_ev d 139 [.iadd, .ireturn] ls st h := rfl
theorem cr_139 {r : Nat} {a1 : Int32} {a2 : Int32}  : jx_cr (d + 1) 139 [.ref r, .int a1, .int a2] h = jx_eb d 139 0 [.ref r, .int a1, .int a2, jx_un, jx_un, jx_un, jx_un, jx_un] [] h := rfl
theorem eb_140_0 : jx_eb d 140 0 ls st h = jx_ev d 140 [.aload 0, .invokevirtual 31260, .iconst 0, .istore 4, .goto_w 7] ls st h := rfl
theorem eb_140_7 : jx_eb d 140 7 ls st h = jx_ev d 140 [.iload 4, .iconst 25, .if_icmp .ge 115, .aload 0, .invokeinterface 3 6, .iload 1, .aload 0, .invokeinterface 3 6, .iload 1, .iaload, .iconst 10, .iload 4, .iconst 5, .idiv, .imul, .iadd, .iconst 999, .invokestatic 1122, .iastore, .aload 0, .invokeinterface 3 6, .iload 2, .aload 0, .invokeinterface 3 6, .iload 2, .iaload, .iconst 10, .iload 4, .iconst 5, .irem, .imul, .iadd, .iconst 999, .invokestatic 1122, .iastore, .aload 0, .iload 3, .invokevirtual 31141, .aload 0, .invokeinterface 3 45, .iload 4, .aload 0, .iload 1, .invokevirtual 31071, .iload 4, .iconst 5, .idiv, .isub, .iastore, .aload 0, .invokeinterface 3 46, .iload 4, .aload 0, .iload 2, .invokevirtual 31071, .iload 4, .iconst 5, .irem, .isub, .iastore, .aload 0, .invokevirtual 31270, .iinc 4 1, .goto 7] ls st h := rfl
theorem eb_140_115 : jx_eb d 140 115 ls st h = jx_ev d 140 [.return_] ls st h := rfl
theorem cr_140 {r : Nat} {a1 : Int32} {a2 : Int32} {a3 : Int32}  : jx_cr (d + 1) 140 [.ref r, .int a1, .int a2, .int a3] h = jx_eb d 140 0 [.ref r, .int a1, .int a2, .int a3, jx_un] [] h := rfl
theorem eb_141_0 : jx_eb d 141 0 ls st h = jx_ev d 141 [.iconst 0, .istore 2, .goto_w 2] ls st h := rfl
theorem eb_141_2 : jx_eb d 141 2 ls st h = jx_ev d 141 [.iload 2, .iconst 5, .if_icmp .ge 57, .aload 0, .invokeinterface 3 45, .iconst 5, .iload 2, .imul, .iload 1, .iconst 5, .irem, .iadd, .iaload, .aload 0, .invokeinterface 3 45, .iload 1, .iaload, .if_icmp .gt 49, .aload 0, .invokeinterface 3 46, .iload 1, .iload 1, .iconst 5, .irem, .isub, .iload 2, .iadd, .iaload, .aload 0, .invokeinterface 3 46, .iload 1, .iaload, .if_icmp .le 51, .goto_w 49] ls st h := rfl
theorem eb_141_49 : jx_eb d 141 49 ls st h = jx_ev d 141 [.iconst 0, .freturn] ls st h := rfl
theorem eb_141_51 : jx_eb d 141 51 ls st h = jx_ev d 141 [.iinc 2 1, .goto 2] ls st h := rfl
theorem eb_141_57 : jx_eb d 141 57 ls st h = jx_ev d 141 [.iconst 1, .freturn] ls st h := rfl
theorem cr_141 {r : Nat} {a1 : Int32}  : jx_cr (d + 1) 141 [.ref r, .int a1] h = jx_eb d 141 0 [.ref r, .int a1, jx_un] [] h := rfl
theorem eb_142_0 : jx_eb d 142 0 ls st h = jx_ev d 142 [.aload 0, .iload 1, .invokevirtual 30621, .ifCond .eq 46, .aload 0, .iload 2, .invokevirtual 30621, .ifCond .eq 46, .iload 1, .iload 2, .if_icmp .eq 46, .iload 3, .i2l, .jsr 1, .jsr 20, .invokestatic 573, .ifCond .eq 46, .iload 4, .i2l, .jsr 0, .jsr 2, .invokestatic 573, .ifCond .ne 48, .goto_w 46] ls st h := rfl
theorem eb_142_46 : jx_eb d 142 46 ls st h = jx_ev d 142 [.iconst (-1), .ireturn] ls st h := rfl
theorem eb_142_48 : jx_eb d 142 48 ls st h = jx_ev d 142 [.aload 0, .iload 1, .iload 2, .iload 3, .invokevirtual 31403, .iconst 0, .istore 5, .iconst (-1), .istore 6, .iconst 0, .istore 7, .goto_w 64] ls st h := rfl
theorem eb_142_64 : jx_eb d 142 64 ls st h = jx_ev d 142 [.iload 7, .iconst 25, .if_icmp .ge 103, .aload 0, .iload 7, .invokevirtual 31411, .ifCond .eq 97, .iload 5, .ifCond .ne 90, .iload 7, .goto 92] ls st h := rfl
theorem eb_142_90 : jx_eb d 142 90 ls st h = jx_ev d 142 [.iload 6, .goto_w 92] ls st h := rfl
theorem eb_142_92 : jx_eb d 142 92 ls st h = jx_ev d 142 [.istore 6, .iinc 5 1, .goto_w 97] ls st h := rfl
theorem eb_142_97 : jx_eb d 142 97 ls st h = jx_ev d 142 [.iinc 7 1, .goto 64] ls st h := rfl
theorem eb_142_103 : jx_eb d 142 103 ls st h = jx_ev d 142 [.iload 4, .ifCond .ne 111, .iload 5, .ireturn] ls st h := rfl
theorem eb_142_111 : jx_eb d 142 111 ls st h = jx_ev d 142 [.iload 6, .iconst (-1), .if_icmp .ne 122, .iconst (-2), .goto 142] ls st h := rfl
theorem eb_142_122 : jx_eb d 142 122 ls st h = jx_ev d 142 [.iconst 10, .iload 4, .iconst 1, .if_icmp .ne 137, .iload 6, .iconst 5, .idiv, .goto 141] ls st h := rfl
theorem eb_142_137 : jx_eb d 142 137 ls st h = jx_ev d 142 [.iload 6, .iconst 5, .irem, .goto_w 141] ls st h := rfl
theorem eb_142_141 : jx_eb d 142 141 ls st h = jx_ev d 142 [.imul, .goto_w 142] ls st h := rfl
theorem eb_142_142 : jx_eb d 142 142 ls st h = jx_ev d 142 [.ireturn] ls st h := rfl
theorem cr_142 {r : Nat} {a1 : Int32} {a2 : Int32} {a3 : Int32} {a4 : Int32}  : jx_cr (d + 1) 142 [.ref r, .int a1, .int a2, .int a3, .int a4] h = jx_eb d 142 0 [.ref r, .int a1, .int a2, .int a3, .int a4, jx_un, jx_un, jx_un] [] h := rfl
theorem eb_143_0 : jx_eb d 143 0 ls st h = jx_ev d 143 [.iconst 0, .istore 1, .goto_w 2] ls st h := rfl
theorem eb_143_2 : jx_eb d 143 2 ls st h = jx_ev d 143 [.iload 1, .iconst 66, .if_icmp .ge 31, .aload 0, .invokevirtual 31130, .pop, .aload 0, .invokeinterface 3 47, .iload 1, .aload 0, .invokeinterface 3 1, .iconst 5, .iaload, .iastore, .iinc 1 1, .goto 2] ls st h := rfl
theorem eb_143_31 : jx_eb d 143 31 ls st h = jx_ev d 143 [.aload 0, .invokevirtual 31270, .return_] ls st h := rfl
theorem cr_143 {r : Nat}  : jx_cr (d + 1) 143 [.ref r] h = jx_eb d 143 0 [.ref r, jx_un] [] h := rfl
theorem eb_144_0 : jx_eb d 144 0 ls st h = jx_ev d 144 [.iconst 0, .istore 3, .goto_w 2] ls st h := rfl
theorem eb_144_2 : jx_eb d 144 2 ls st h = jx_ev d 144 [.iload 3, .iconst 6, .if_icmp .ge 35, .aload 0, .invokeinterface 3 47, .iload 1, .iload 3, .iadd, .iaload, .aload 0, .invokeinterface 3 47, .iload 2, .iload 3, .iadd, .iaload, .if_icmp .eq 29, .iconst 0, .freturn] ls st h := rfl
theorem eb_144_29 : jx_eb d 144 29 ls st h = jx_ev d 144 [.iinc 3 1, .goto 2] ls st h := rfl
theorem eb_144_35 : jx_eb d 144 35 ls st h = jx_ev d 144 [.iconst 1, .freturn] ls st h := rfl
theorem cr_144 {r : Nat} {a1 : Int32} {a2 : Int32}  : jx_cr (d + 1) 144 [.ref r, .int a1, .int a2] h = jx_eb d 144 0 [.ref r, .int a1, .int a2, jx_un] [] h := rfl
theorem eb_145_0 : jx_eb d 145 0 ls st h = jx_ev d 145 [.aload 0, .invokevirtual 30600, .ifCond .eq 17, .iload 1, .i2l, .jsr 0, .jsr 1, .invokestatic 573, .ifCond .ne 19, .goto_w 17] ls st h := rfl
theorem eb_145_17 : jx_eb d 145 17 ls st h = jx_ev d 145 [.iconst (-1), .ireturn] ls st h := rfl
theorem eb_145_19 : jx_eb d 145 19 ls st h = jx_ev d 145 [.aload 0, .invokevirtual 31260, .aload 0, .invokevirtual 31430, .iconst 0, .istore 2, .goto_w 29] ls st h := rfl
theorem eb_145_29 : jx_eb d 145 29 ls st h = jx_ev d 145 [.iload 2, .iconst 60, .if_icmp .ge 85, .iload 2, .iconst 1, .iadd, .istore 3, .goto_w 39] ls st h := rfl
theorem eb_145_39 : jx_eb d 145 39 ls st h = jx_ev d 145 [.iload 3, .iconst 60, .if_icmp .gt 79, .aload 0, .iload 2, .iload 3, .invokevirtual 31442, .ifCond .eq 73, .iload 1, .ifCond .ne 69, .aload 0, .invokeinterface 3 1, .iconst 4, .iaload, .iload 2, .iadd, .goto 72] ls st h := rfl
theorem eb_145_69 : jx_eb d 145 69 ls st h = jx_ev d 145 [.iload 3, .iload 2, .isub, .goto_w 72] ls st h := rfl
theorem eb_145_72 : jx_eb d 145 72 ls st h = jx_ev d 145 [.ireturn] ls st h := rfl
theorem eb_145_73 : jx_eb d 145 73 ls st h = jx_ev d 145 [.iinc 3 1, .goto 39] ls st h := rfl
theorem eb_145_79 : jx_eb d 145 79 ls st h = jx_ev d 145 [.iinc 2 1, .goto 29] ls st h := rfl
theorem eb_145_85 : jx_eb d 145 85 ls st h = jx_ev d 145 [.iconst (-2), .ireturn] ls st h := rfl
theorem cr_145 {r : Nat} {a1 : Int32}  : jx_cr (d + 1) 145 [.ref r, .int a1] h = jx_eb d 145 0 [.ref r, .int a1, jx_un, jx_un] [] h := rfl
theorem eb_146_0 : jx_eb d 146 0 ls st h = jx_ev d 146 [.iload 1, .iconst (-1), .if_icmp .ne 15, .aload 0, .invokeinterface 3 1, .iconst 8, .iconst 0, .iastore, .iconst 0, .ireturn] ls st h := rfl
theorem eb_146_15 : jx_eb d 146 15 ls st h = jx_ev d 146 [.aload 0, .invokeinterface 3 1, .iconst 8, .iaload, .istore 3, .aload 0, .invokevirtual 30600, .ifCond .eq 61, .iload 1, .i2l, .jsr 0, .jsr 60, .invokestatic 573, .ifCond .eq 61, .iload 2, .iconst (-1), .if_icmp .eq 55, .aload 0, .iload 2, .invokevirtual 30611, .ifCond .eq 61, .goto_w 55] ls st h := rfl
theorem eb_146_55 : jx_eb d 146 55 ls st h = jx_ev d 146 [.iload 3, .iconst 10, .if_icmp .ne 64, .goto_w 61] ls st h := rfl
theorem eb_146_61 : jx_eb d 146 61 ls st h = jx_ev d 146 [.iconst (-2), .ireturn] ls st h := rfl
theorem eb_146_64 : jx_eb d 146 64 ls st h = jx_ev d 146 [.aload 0, .invokeinterface 3 10, .iload 3, .iload 1, .iastore, .aload 0, .invokeinterface 3 11, .iload 3, .iload 2, .iastore, .aload 0, .invokeinterface 3 1, .iconst 8, .dup2, .iaload, .iconst 1, .iadd, .iastore, .iload 3, .iconst 1, .iadd, .ireturn] ls st h := rfl
theorem cr_146 {r : Nat} {a1 : Int32} {a2 : Int32}  : jx_cr (d + 1) 146 [.ref r, .int a1, .int a2] h = jx_eb d 146 0 [.ref r, .int a1, .int a2, jx_un] [] h := rfl
theorem eb_147_0 : jx_eb d 147 0 ls st h = jx_ev d 147 [.aload 0, .invokeinterface 3 1, .iconst 10, .iload 1, .iastore, .aload 0, .invokevirtual 30950, .aload 0, .invokevirtual 31430, .iconst 0, .istore 2, .goto_w 18] ls st h := rfl
theorem eb_147_18 : jx_eb d 147 18 ls st h = jx_ev d 147 [.iload 2, .aload 0, .invokeinterface 3 1, .iconst 8, .iaload, .if_icmp .ge 57, .aload 0, .invokeinterface 3 47, .aload 0, .invokeinterface 3 10, .iload 2, .iaload, .iaload, .aload 0, .invokeinterface 3 11, .iload 2, .iaload, .if_icmp .eq 51, .iconst 0, .freturn] ls st h := rfl
theorem eb_147_51 : jx_eb d 147 51 ls st h = jx_ev d 147 [.iinc 2 1, .goto 18] ls st h := rfl
theorem eb_147_57 : jx_eb d 147 57 ls st h = jx_ev d 147 [.iconst 1, .freturn] ls st h := rfl
theorem cr_147 {r : Nat} {a1 : Int32}  : jx_cr (d + 1) 147 [.ref r, .int a1] h = jx_eb d 147 0 [.ref r, .int a1, jx_un] [] h := rfl
theorem eb_148_0 : jx_eb d 148 0 ls st h = jx_ev d 148 [.aload 0, .invokevirtual 30600, .ifCond .eq 17, .iload 1, .i2l, .jsr 0, .jsr 1, .invokestatic 573, .ifCond .ne 20, .goto_w 17] ls st h := rfl
theorem eb_148_17 : jx_eb d 148 17 ls st h = jx_ev d 148 [.iconst (-3), .ireturn] ls st h := rfl
theorem eb_148_20 : jx_eb d 148 20 ls st h = jx_ev d 148 [.aload 0, .invokevirtual 31260, .iconst 0, .istore 2, .iconst (-2), .istore 3, .iconst (-1), .istore 4, .goto_w 32] ls st h := rfl
theorem eb_148_32 : jx_eb d 148 32 ls st h = jx_ev d 148 [.iload 4, .aload 0, .invokeinterface 3 23, .if_icmp .ge 70, .aload 0, .iload 4, .invokevirtual 31471, .ifCond .eq 64, .iload 2, .ifCond .ne 59, .iload 4, .goto 60] ls st h := rfl
theorem eb_148_59 : jx_eb d 148 59 ls st h = jx_ev d 148 [.iload 3, .goto_w 60] ls st h := rfl
theorem eb_148_60 : jx_eb d 148 60 ls st h = jx_ev d 148 [.istore 3, .iinc 2 1, .goto_w 64] ls st h := rfl
theorem eb_148_64 : jx_eb d 148 64 ls st h = jx_ev d 148 [.iinc 4 1, .goto 32] ls st h := rfl
theorem eb_148_70 : jx_eb d 148 70 ls st h = jx_ev d 148 [.iload 1, .ifCond .ne 78, .iload 2, .goto 79] ls st h := rfl
theorem eb_148_78 : jx_eb d 148 78 ls st h = jx_ev d 148 [.iload 3, .goto_w 79] ls st h := rfl
theorem eb_148_79 : jx_eb d 148 79 ls st h = jx_ev d 148 [.ireturn] ls st h := rfl
theorem cr_148 {r : Nat} {a1 : Int32}  : jx_cr (d + 1) 148 [.ref r, .int a1] h = jx_eb d 148 0 [.ref r, .int a1, jx_un, jx_un, jx_un] [] h := rfl
theorem eb_149_0 : jx_eb d 149 0 ls st h = jx_ev d 149 [.iconst 0, .istore 3, .iconst 0, .istore 4, .goto_w 5] ls st h := rfl
theorem eb_149_5 : jx_eb d 149 5 ls st h = jx_ev d 149 [.iload 4, .iload 2, .if_icmp .ge 85, .iconst 0, .istore 5, .iconst 0, .istore 6, .goto_w 17] ls st h := rfl
theorem eb_149_17 : jx_eb d 149 17 ls st h = jx_ev d 149 [.iload 6, .iload 2, .if_icmp .ge 66, .iload 5, .aload 0, .invokeinterface 3 48, .iconst 61, .iload 6, .imul, .iload 1, .iadd, .iaload, .aload 0, .invokeinterface 3 48, .iconst 61, .iload 4, .imul, .iload 1, .iadd, .iaload, .if_icmp .ne 56, .iconst 1, .goto 57] ls st h := rfl
theorem eb_149_56 : jx_eb d 149 56 ls st h = jx_ev d 149 [.iconst 0, .goto_w 57] ls st h := rfl
theorem eb_149_57 : jx_eb d 149 57 ls st h = jx_ev d 149 [.iadd, .istore 5, .iinc 6 1, .goto 17] ls st h := rfl
theorem eb_149_66 : jx_eb d 149 66 ls st h = jx_ev d 149 [.iload 5, .iload 3, .if_icmp .le 77, .iload 5, .goto 78] ls st h := rfl
theorem eb_149_77 : jx_eb d 149 77 ls st h = jx_ev d 149 [.iload 3, .goto_w 78] ls st h := rfl
theorem eb_149_78 : jx_eb d 149 78 ls st h = jx_ev d 149 [.istore 3, .iinc 4 1, .goto 5] ls st h := rfl
theorem eb_149_85 : jx_eb d 149 85 ls st h = jx_ev d 149 [.iload 3, .ireturn] ls st h := rfl
theorem cr_149 {r : Nat} {a1 : Int32} {a2 : Int32}  : jx_cr (d + 1) 149 [.ref r, .int a1, .int a2] h = jx_eb d 149 0 [.ref r, .int a1, .int a2, jx_un, jx_un, jx_un, jx_un] [] h := rfl
theorem eb_150_0 : jx_eb d 150 0 ls st h = jx_ev d 150 [.aload 0, .invokevirtual 30600, .ifCond .eq 17, .iload 1, .i2l, .jsr 0, .jsr 1, .invokestatic 573, .ifCond .ne 19, .goto_w 17] ls st h := rfl
theorem eb_150_17 : jx_eb d 150 17 ls st h = jx_ev d 150 [.iconst (-1), .ireturn] ls st h := rfl
theorem eb_150_19 : jx_eb d 150 19 ls st h = jx_ev d 150 [.aload 0, .invokevirtual 31260, .iconst 0, .istore 2, .iconst (-1), .istore 3, .goto_w 27] ls st h := rfl
theorem eb_150_27 : jx_eb d 150 27 ls st h = jx_ev d 150 [.iload 3, .aload 0, .invokeinterface 3 23, .if_icmp .ge 87, .aload 0, .iload 3, .invokevirtual 31471, .ifCond .eq 81, .iconst 0, .istore 4, .goto_w 46] ls st h := rfl
theorem eb_150_46 : jx_eb d 150 46 ls st h = jx_ev d 150 [.iload 4, .iconst 60, .if_icmp .gt 78, .aload 0, .invokeinterface 3 48, .iconst 61, .iload 2, .imul, .iload 4, .iadd, .aload 0, .invokeinterface 3 47, .iload 4, .iaload, .iastore, .iinc 4 1, .goto 46] ls st h := rfl
theorem eb_150_78 : jx_eb d 150 78 ls st h = jx_ev d 150 [.iinc 2 1, .goto_w 81] ls st h := rfl
theorem eb_150_81 : jx_eb d 150 81 ls st h = jx_ev d 150 [.iinc 3 1, .goto 27] ls st h := rfl
theorem eb_150_87 : jx_eb d 150 87 ls st h = jx_ev d 150 [.iload 2, .ifCond .ne 94, .iconst (-2), .ireturn] ls st h := rfl
theorem eb_150_94 : jx_eb d 150 94 ls st h = jx_ev d 150 [.iconst 0, .istore 3, .iconst 1, .istore 4, .goto_w 99] ls st h := rfl
theorem eb_150_99 : jx_eb d 150 99 ls st h = jx_ev d 150 [.iload 4, .iconst 60, .if_icmp .gt 135, .aload 0, .iload 4, .iload 2, .invokevirtual 31492, .aload 0, .iload 3, .iload 2, .invokevirtual 31492, .if_icmp .ge 127, .iload 4, .goto 128] ls st h := rfl
theorem eb_150_127 : jx_eb d 150 127 ls st h = jx_ev d 150 [.iload 3, .goto_w 128] ls st h := rfl
theorem eb_150_128 : jx_eb d 150 128 ls st h = jx_ev d 150 [.istore 3, .iinc 4 1, .goto 99] ls st h := rfl
theorem eb_150_135 : jx_eb d 150 135 ls st h = jx_ev d 150 [.iload 1, .ifCond .ne 143, .iload 3, .goto 149] ls st h := rfl
theorem eb_150_143 : jx_eb d 150 143 ls st h = jx_ev d 150 [.aload 0, .iload 3, .iload 2, .invokevirtual 31492, .goto_w 149] ls st h := rfl
theorem eb_150_149 : jx_eb d 150 149 ls st h = jx_ev d 150 [.ireturn] ls st h := rfl
theorem cr_150 {r : Nat} {a1 : Int32}  : jx_cr (d + 1) 150 [.ref r, .int a1] h = jx_eb d 150 0 [.ref r, .int a1, jx_un, jx_un, jx_un] [] h := rfl
theorem eb_151_0 : jx_eb d 151 0 ls st h = jx_ev d 151 [.iload 1, .ifCond .ge 6, .iconst (-1), .ireturn] ls st h := rfl
theorem eb_151_6 : jx_eb d 151 6 ls st h = jx_ev d 151 [.aload 0, .invokeinterface 3 1, .iconst 9, .iaload, .istore 2, .aload 0, .invokeinterface 3 1, .iconst 9, .iload 1, .iastore, .iload 2, .ireturn] ls st h := rfl
theorem cr_151 {r : Nat} {a1 : Int32}  : jx_cr (d + 1) 151 [.ref r, .int a1] h = jx_eb d 151 0 [.ref r, .int a1, jx_un] [] h := rfl
theorem eb_152_0 : jx_eb d 152 0 ls st h = jx_ev d 152 [.aload 0, .invokeinterface 3 1, .iconst 9, .aload 0, .invokeinterface 3 1, .iconst 9, .iaload, .i2l, .jsr 1103515245, .lmul, .jsr 12345, .ladd, .jsr 2147483648, .lrem, .l2i, .iastore, .aload 0, .invokeinterface 3 1, .iconst 9, .iaload, .iconst 65536, .idiv, .iload 1, .irem, .ireturn] ls st h := rfl
theorem cr_152 {r : Nat} {a1 : Int32}  : jx_cr (d + 1) 152 [.ref r, .int a1] h = jx_eb d 152 0 [.ref r, .int a1] [] h := rfl
theorem eb_153_0 : jx_eb d 153 0 ls st h = jx_ev d 153 [.iconst 0, .istore 1, .iconst 0, .istore 2, .goto_w 4] ls st h := rfl
theorem eb_153_4 : jx_eb d 153 4 ls st h = jx_ev d 153 [.iload 2, .aload 0, .invokeinterface 3 1, .iconst 3, .iaload, .if_icmp .ge 28, .iload 1, .aload 0, .iload 2, .invokevirtual 31071, .iadd, .istore 1, .iinc 2 1, .goto 4] ls st h := rfl
theorem eb_153_28 : jx_eb d 153 28 ls st h = jx_ev d 153 [.iload 1, .ireturn] ls st h := rfl
theorem cr_153 {r : Nat}  : jx_cr (d + 1) 153 [.ref r] h = jx_eb d 153 0 [.ref r, jx_un, jx_un] [] h := rfl
theorem eb_154_0 : jx_eb d 154 0 ls st h = jx_ev d 154 [.aload 0, .invokevirtual 30600, .ifCond .eq 54, .iload 1, .i2l, .jsr 1, .jsr 10, .invokestatic 573, .ifCond .eq 54, .iload 2, .i2l, .jsr 1, .jsr 60, .invokestatic 573, .ifCond .eq 54, .iload 3, .i2l, .jsr 0, .jsr 100, .invokestatic 573, .ifCond .eq 54, .iload 4, .i2l, .jsr 0, .jsr 1, .invokestatic 573, .ifCond .ne 56, .goto_w 54] ls st h := rfl
theorem eb_154_54 : jx_eb d 154 54 ls st h = jx_ev d 154 [.iconst (-1), .ireturn] ls st h := rfl
theorem eb_154_56 : jx_eb d 154 56 ls st h = jx_ev d 154 [.aload 0, .invokeinterface 3 1, .iconst 9, .iaload, .istore 5, .iload 5, .istore 6, .iconst 0, .istore 7, .iconst 0, .istore 8, .aload 0, .invokevirtual 31260, .iconst 0, .istore 9, .goto_w 82] ls st h := rfl
theorem eb_154_82 : jx_eb d 154 82 ls st h = jx_ev d 154 [.iload 9, .iload 1, .if_icmp .ge 206, .aload 0, .invokeinterface 3 1, .iconst 9, .iload 6, .iastore, .iconst 0, .istore 10, .goto_w 100] ls st h := rfl
theorem eb_154_100 : jx_eb d 154 100 ls st h = jx_ev d 154 [.iload 10, .iload 2, .if_icmp .ge 178, .aload 0, .iconst 100, .invokevirtual 31521, .iload 3, .if_icmp .ge 142, .aload 0, .invokeinterface 3 1, .iconst 2, .iaload, .ifCond .le 142, .aload 0, .invokeinterface 3 1, .iconst 6, .aload 0, .aload 0, .invokeinterface 3 1, .iconst 2, .iaload, .invokevirtual 31521, .iastore, .goto_w 142] ls st h := rfl
theorem eb_154_142 : jx_eb d 154 142 ls st h = jx_ev d 154 [.aload 0, .invokevirtual 31130, .istore 11, .iload 7, .aload 0, .invokeinterface 3 1, .iconst 5, .iaload, .iconst (-1), .if_icmp .ne 164, .iconst 0, .goto 169] ls st h := rfl
theorem eb_154_164 : jx_eb d 154 164 ls st h = jx_ev d 154 [.iload 11, .invokestatic 581, .goto_w 169] ls st h := rfl
theorem eb_154_169 : jx_eb d 154 169 ls st h = jx_ev d 154 [.iadd, .istore 7, .iinc 10 1, .goto 100] ls st h := rfl
theorem eb_154_178 : jx_eb d 154 178 ls st h = jx_ev d 154 [.iload 8, .aload 0, .invokevirtual 31530, .iadd, .istore 8, .aload 0, .invokeinterface 3 1, .iconst 9, .iaload, .istore 6, .aload 0, .invokevirtual 31270, .iinc 9 1, .goto 82] ls st h := rfl
theorem eb_154_206 : jx_eb d 154 206 ls st h = jx_ev d 154 [.aload 0, .invokeinterface 3 1, .iconst 9, .iload 5, .iastore, .iload 4, .ifCond .ne 225, .iload 7, .goto 227] ls st h := rfl
theorem eb_154_225 : jx_eb d 154 225 ls st h = jx_ev d 154 [.iload 8, .goto_w 227] ls st h := rfl
theorem eb_154_227 : jx_eb d 154 227 ls st h = jx_ev d 154 [.ireturn] ls st h := rfl
theorem cr_154 {r : Nat} {a1 : Int32} {a2 : Int32} {a3 : Int32} {a4 : Int32}  : jx_cr (d + 1) 154 [.ref r, .int a1, .int a2, .int a3, .int a4] h = jx_eb d 154 0 [.ref r, .int a1, .int a2, .int a3, .int a4, jx_un, jx_un, jx_un, jx_un, jx_un, jx_un, jx_un] [] h := rfl
theorem eb_155_0 : jx_eb d 155 0 ls st h = jx_ev d 155 [.iload 1, .tableswitch 178 0 14 #[76, 83, 90, 97, 104, 109, 117, 124, 131, 139, 147, 152, 160, 165, 173]] ls st h := rfl
theorem eb_155_76 : jx_eb d 155 76 ls st h = jx_ev d 155 [.aload 0, .invokeinterface 3 1, .iconst 0, .iaload, .ireturn] ls st h := rfl
theorem eb_155_83 : jx_eb d 155 83 ls st h = jx_ev d 155 [.aload 0, .invokeinterface 3 1, .iconst 1, .iaload, .ireturn] ls st h := rfl
theorem eb_155_90 : jx_eb d 155 90 ls st h = jx_ev d 155 [.aload 0, .invokeinterface 3 1, .iconst 2, .iaload, .ireturn] ls st h := rfl
theorem eb_155_97 : jx_eb d 155 97 ls st h = jx_ev d 155 [.aload 0, .invokeinterface 3 1, .iconst 3, .iaload, .ireturn] ls st h := rfl
theorem eb_155_104 : jx_eb d 155 104 ls st h = jx_ev d 155 [.aload 0, .invokeinterface 3 23, .ireturn] ls st h := rfl
theorem eb_155_109 : jx_eb d 155 109 ls st h = jx_ev d 155 [.aload 0, .invokeinterface 3 1, .iconst 10, .iaload, .ireturn] ls st h := rfl
theorem eb_155_117 : jx_eb d 155 117 ls st h = jx_ev d 155 [.aload 0, .invokeinterface 3 1, .iconst 4, .iaload, .ireturn] ls st h := rfl
theorem eb_155_124 : jx_eb d 155 124 ls st h = jx_ev d 155 [.aload 0, .invokeinterface 3 1, .iconst 5, .iaload, .ireturn] ls st h := rfl
theorem eb_155_131 : jx_eb d 155 131 ls st h = jx_ev d 155 [.aload 0, .invokeinterface 3 1, .iconst 6, .iaload, .ireturn] ls st h := rfl
theorem eb_155_139 : jx_eb d 155 139 ls st h = jx_ev d 155 [.aload 0, .invokeinterface 3 1, .iconst 7, .iaload, .ireturn] ls st h := rfl
theorem eb_155_147 : jx_eb d 155 147 ls st h = jx_ev d 155 [.aload 0, .invokevirtual 31090, .ireturn] ls st h := rfl
theorem eb_155_152 : jx_eb d 155 152 ls st h = jx_ev d 155 [.aload 0, .invokeinterface 3 1, .iconst 8, .iaload, .ireturn] ls st h := rfl
theorem eb_155_160 : jx_eb d 155 160 ls st h = jx_ev d 155 [.aload 0, .invokeinterface 3 41, .ireturn] ls st h := rfl
theorem eb_155_165 : jx_eb d 155 165 ls st h = jx_ev d 155 [.aload 0, .invokeinterface 3 1, .iconst 9, .iaload, .ireturn] ls st h := rfl
theorem eb_155_173 : jx_eb d 155 173 ls st h = jx_ev d 155 [.aload 0, .invokeinterface 3 19, .ireturn] ls st h := rfl
theorem eb_155_178 : jx_eb d 155 178 ls st h = jx_ev d 155 [.iconst (-1), .ireturn] ls st h := rfl
theorem cr_155 {r : Nat} {a1 : Int32}  : jx_cr (d + 1) 155 [.ref r, .int a1] h = jx_eb d 155 0 [.ref r, .int a1] [] h := rfl
theorem eb_156_0 : jx_eb d 156 0 ls st h = jx_ev d 156 [.iconst 0, .istore 2, .goto_w 2] ls st h := rfl
theorem eb_156_2 : jx_eb d 156 2 ls st h = jx_ev d 156 [.iload 2, .aload 1, .arraylength, .if_icmp .ge 58, .aload 0, .invokeinterface 3 52, .ifCond .eq 30, .aload 1, .iload 2, .aload 0, .invokeinterface 3 49, .aload 0, .invokeinterface 3 51, .iaload, .iastore, .goto 42] ls st h := rfl
theorem eb_156_30 : jx_eb d 156 30 ls st h = jx_ev d 156 [.aload 0, .invokeinterface 3 49, .aload 0, .invokeinterface 3 51, .aload 1, .iload 2, .iaload, .iastore, .goto_w 42] ls st h := rfl
theorem eb_156_42 : jx_eb d 156 42 ls st h = jx_ev d 156 [.aload 0, .dup, .invokeinterface 3 51, .iconst 1, .iadd, .multianewarray 3 51, .iinc 2 1, .goto 2] ls st h := rfl
theorem eb_156_58 : jx_eb d 156 58 ls st h = jx_ev d 156 [.return_] ls st h := rfl
theorem cr_156 {r : Nat} {a1 : Value} (e1 : jx_ns a1 = true) : jx_cr (d + 1) 156 [.ref r, a1] h = jx_eb d 156 0 [.ref r, a1, jx_un] [] h := by
  have q : jx_PP.2.1 156 [.ref r, a1] = some [.ref r, a1, jx_un] := by
    show jx_le [false, false] 3 [.ref r, a1] = _
    simp only [jx_le, jx_la_f jx_ns_r, jx_la_f e1, jx_la_n, Option.map_some]
    rfl
  simp only [jx_cr, q]
theorem eb_157_0 : jx_eb d 157 0 ls st h = jx_ev d 157 [.aload 0, .iconst 700, .iload 1, .imul, .multianewarray 3 51, .aload 0, .iload 2, .multianewarray 3 352, .aload 0, .aload 0, .invokeinterface 3 1, .invokevirtual 31561, .aload 0, .aload 0, .invokeinterface 3 4, .invokevirtual 31561, .aload 0, .aload 0, .invokeinterface 3 6, .invokevirtual 31561, .aload 0, .aload 0, .invokeinterface 3 8, .invokevirtual 31561, .aload 0, .aload 0, .invokeinterface 3 9, .invokevirtual 31561, .iload 1, .iconst 4, .if_icmp .ne 60, .return_] ls st h := rfl
theorem eb_157_60 : jx_eb d 157 60 ls st h = jx_ev d 157 [.aload 0, .invokeinterface 3 40, .iconst 0, .aload 0, .invokeinterface 3 41, .iastore, .aload 0, .aload 0, .invokeinterface 3 40, .invokevirtual 31561, .aload 0, .aload 0, .invokeinterface 3 40, .iconst 0, .iaload, .multianewarray 3 41, .aload 0, .aload 0, .invokeinterface 3 2, .invokevirtual 31561, .aload 0, .aload 0, .invokeinterface 3 3, .invokevirtual 31561, .aload 0, .aload 0, .invokeinterface 3 5, .invokevirtual 31561, .aload 0, .aload 0, .invokeinterface 3 7, .invokevirtual 31561, .aload 0, .aload 0, .invokeinterface 3 10, .invokevirtual 31561, .aload 0, .aload 0, .invokeinterface 3 11, .invokevirtual 31561, .aload 0, .aload 0, .invokeinterface 3 12, .invokevirtual 31561, .aload 0, .aload 0, .invokeinterface 3 39, .invokevirtual 31561, .return_] ls st h := rfl
theorem cr_157 {r : Nat} {a1 : Int32} {a2 : Int32}  : jx_cr (d + 1) 157 [.ref r, .int a1, .int a2] h = jx_eb d 157 0 [.ref r, .int a1, .int a2] [] h := rfl
theorem eb_158_0 : jx_eb d 158 0 ls st h = jx_ev d 158 [.iload 1, .i2l, .jsr 0, .jsr 3, .invokestatic 573, .ifCond .ne 14, .iconst (-1), .ireturn] ls st h := rfl
theorem eb_158_14 : jx_eb d 158 14 ls st h = jx_ev d 158 [.aload 0, .invokeinterface 3 50, .iload 1, .iconst 1, .bastore, .aload 0, .iload 1, .iconst 0, .invokevirtual 31572, .aload 0, .invokeinterface 3 1, .iconst 4, .iaload, .ireturn] ls st h := rfl
theorem cr_158 {r : Nat} {a1 : Int32}  : jx_cr (d + 1) 158 [.ref r, .int a1] h = jx_eb d 158 0 [.ref r, .int a1] [] h := rfl
theorem eb_159_0 : jx_eb d 159 0 ls st h = jx_ev d 159 [.iload 1, .i2l, .jsr 0, .jsr 3, .invokestatic 573, .ifCond .eq 21, .aload 0, .invokeinterface 3 50, .iload 1, .baload, .ifCond .ne 23, .goto_w 21] ls st h := rfl
theorem eb_159_21 : jx_eb d 159 21 ls st h = jx_ev d 159 [.iconst (-1), .ireturn] ls st h := rfl
theorem eb_159_23 : jx_eb d 159 23 ls st h = jx_ev d 159 [.aload 0, .iload 1, .iconst 1, .invokevirtual 31572, .aload 0, .invokeinterface 3 1, .iconst 4, .iaload, .ireturn] ls st h := rfl
theorem cr_159 {r : Nat} {a1 : Int32}  : jx_cr (d + 1) 159 [.ref r, .int a1] h = jx_eb d 159 0 [.ref r, .int a1] [] h := rfl
theorem eb_160_0 : jx_eb d 160 0 ls st h = jx_ev d 160 [.aload 0, .invokespecial 1920, .aload 0, .aload 1, .multianewarray 14 200, .aload 0, .iload 2, .multianewarray 14 302, .aload 0, .aload 3, .multianewarray 14 201, .return_] ls st h := rfl
theorem cr_160 {r : Nat} {a1 : Value} {a2 : Int32} {a3 : Value} (e1 : jx_ns a1 = true) (e3 : jx_ns a3 = true) : jx_cr (d + 1) 160 [.ref r, a1, .int a2, a3] h = jx_eb d 160 0 [.ref r, a1, .int a2, a3] [] h := by
  have q : jx_PP.2.1 160 [.ref r, a1, .int a2, a3] = some [.ref r, a1, .int a2, a3] := by
    show jx_le [false, false, false, false] 4 [.ref r, a1, .int a2, a3] = _
    simp only [jx_le, jx_la_f jx_ns_r, jx_la_f e1, jx_la_f jx_ns_i, jx_la_f e3, jx_la_n, Option.map_some]
    rfl
  simp only [jx_cr, q]
theorem eb_161_0 : jx_eb d 161 0 ls st h = jx_ev d 161 [.aload 0, .invokeinterface 14 2, .ifCond .eq 37, .aload 0, .invokeinterface 14 0, .aload 1, .fload 11, .ifCond .eq 33, .aload 0, .invokeinterface 14 1, .aload 1, .fload 11, .ifCond .eq 33, .iconst 1, .goto 64] ls st h := rfl
theorem eb_161_33 : jx_eb d 161 33 ls st h = jx_ev d 161 [.iconst 0, .goto 64] ls st h := rfl
theorem eb_161_37 : jx_eb d 161 37 ls st h = jx_ev d 161 [.aload 0, .invokeinterface 14 0, .aload 1, .fload 11, .ifCond .ne 59, .aload 0, .invokeinterface 14 1, .aload 1, .fload 11, .ifCond .eq 63, .goto_w 59] ls st h := rfl
theorem eb_161_59 : jx_eb d 161 59 ls st h = jx_ev d 161 [.iconst 1, .goto 64] ls st h := rfl
theorem eb_161_63 : jx_eb d 161 63 ls st h = jx_ev d 161 [.iconst 0, .goto_w 64] ls st h := rfl
theorem eb_161_64 : jx_eb d 161 64 ls st h = jx_ev d 161 [.freturn] ls st h := rfl
theorem cr_161 {r : Nat} {a1 : Value} (e1 : jx_ns a1 = true) : jx_cr (d + 1) 161 [.ref r, a1] h = jx_eb d 161 0 [.ref r, a1] [] h := by
  have q : jx_PP.2.1 161 [.ref r, a1] = some [.ref r, a1] := by
    show jx_le [false, false] 2 [.ref r, a1] = _
    simp only [jx_le, jx_la_f jx_ns_r, jx_la_f e1, jx_la_n, Option.map_some]
    rfl
  simp only [jx_cr, q]
theorem eb_162_0 : jx_eb d 162 0 ls st h = jx_ev d 162 [.aload 0, .monitorenter, .return_] ls st h := rfl
theorem cr_162 {r : Nat}  : jx_cr (d + 1) 162 [.ref r] h = jx_eb d 162 0 [.ref r] [] h := rfl
theorem eb_163_0 : jx_eb d 163 0 ls st h = jx_ev d 163 [.aload 0, .invokeinterface 6 1, .ifnull 18, .aload 0, .invokeinterface 6 1, .aload 1, .fload 11, .ifCond .eq 22, .goto_w 18] ls st h := rfl
theorem eb_163_18 : jx_eb d 163 18 ls st h = jx_ev d 163 [.iconst 1, .goto 23] ls st h := rfl
theorem eb_163_22 : jx_eb d 163 22 ls st h = jx_ev d 163 [.iconst 0, .goto_w 23] ls st h := rfl
theorem eb_163_23 : jx_eb d 163 23 ls st h = jx_ev d 163 [.freturn] ls st h := rfl
theorem cr_163 {r : Nat} {a1 : Value} (e1 : jx_ns a1 = true) : jx_cr (d + 1) 163 [.ref r, a1] h = jx_eb d 163 0 [.ref r, a1] [] h := by
  have q : jx_PP.2.1 163 [.ref r, a1] = some [.ref r, a1] := by
    show jx_le [false, false] 2 [.ref r, a1] = _
    simp only [jx_le, jx_la_f jx_ns_r, jx_la_f e1, jx_la_n, Option.map_some]
    rfl
  simp only [jx_cr, q]
theorem eb_164_0 : jx_eb d 164 0 ls st h = jx_ev d 164 [.aload 0, .invokespecial 1920, .aload 0, .aload 1, .multianewarray 13 200, .aload 0, .iload 2, .multianewarray 13 2, .aload 0, .aload 3, .multianewarray 13 201, .return_] ls st h := rfl
theorem cr_164 {r : Nat} {a1 : Value} {a2 : Int32} {a3 : Value} (e1 : jx_ns a1 = true) (e3 : jx_ns a3 = true) : jx_cr (d + 1) 164 [.ref r, a1, .int a2, a3] h = jx_eb d 164 0 [.ref r, a1, .int a2, a3] [] h := by
  have q : jx_PP.2.1 164 [.ref r, a1, .int a2, a3] = some [.ref r, a1, .int a2, a3] := by
    show jx_le [false, false, false, false] 4 [.ref r, a1, .int a2, a3] = _
    simp only [jx_le, jx_la_f jx_ns_r, jx_la_f e1, jx_la_f jx_ns_i, jx_la_f e3, jx_la_n, Option.map_some]
    rfl
  simp only [jx_cr, q]
theorem eb_165_0 : jx_eb d 165 0 ls st h = jx_ev d 165 [.aload 0, .invokeinterface 13 0, .aload 1, .fload 1, .lstore 2, .aload 0, .invokeinterface 13 1, .aload 1, .fload 1, .lstore 4, .aload 0, .invokeinterface 13 2, .tableswitch 104 0 3 #[52, 65, 78, 91]] ls st h := rfl
theorem eb_165_52 : jx_eb d 165 52 ls st h = jx_ev d 165 [.lload 2, .lload 4, .lcmp, .ifCond .ge 63, .iconst 1, .goto 64] ls st h := rfl
theorem eb_165_63 : jx_eb d 165 63 ls st h = jx_ev d 165 [.iconst 0, .goto_w 64] ls st h := rfl
theorem eb_165_64 : jx_eb d 165 64 ls st h = jx_ev d 165 [.freturn] ls st h := rfl
theorem eb_165_65 : jx_eb d 165 65 ls st h = jx_ev d 165 [.lload 2, .lload 4, .lcmp, .ifCond .gt 76, .iconst 1, .goto 77] ls st h := rfl
theorem eb_165_76 : jx_eb d 165 76 ls st h = jx_ev d 165 [.iconst 0, .goto_w 77] ls st h := rfl
theorem eb_165_77 : jx_eb d 165 77 ls st h = jx_ev d 165 [.freturn] ls st h := rfl
theorem eb_165_78 : jx_eb d 165 78 ls st h = jx_ev d 165 [.lload 2, .lload 4, .lcmp, .ifCond .ne 89, .iconst 1, .goto 90] ls st h := rfl
theorem eb_165_89 : jx_eb d 165 89 ls st h = jx_ev d 165 [.iconst 0, .goto_w 90] ls st h := rfl
theorem eb_165_90 : jx_eb d 165 90 ls st h = jx_ev d 165 [.freturn] ls st h := rfl
theorem eb_165_91 : jx_eb d 165 91 ls st h = jx_ev d 165 [.lload 2, .lload 4, .lcmp, .ifCond .lt 102, .iconst 1, .goto 103] ls st h := rfl
theorem eb_165_102 : jx_eb d 165 102 ls st h = jx_ev d 165 [.iconst 0, .goto_w 103] ls st h := rfl
theorem eb_165_103 : jx_eb d 165 103 ls st h = jx_ev d 165 [.freturn] ls st h := rfl
theorem eb_165_104 : jx_eb d 165 104 ls st h = jx_ev d 165 [.lload 2, .lload 4, .lcmp, .ifCond .le 115, .iconst 1, .goto 116] ls st h := rfl
theorem eb_165_115 : jx_eb d 165 115 ls st h = jx_ev d 165 [.iconst 0, .goto_w 116] ls st h := rfl
theorem eb_165_116 : jx_eb d 165 116 ls st h = jx_ev d 165 [.freturn] ls st h := rfl
theorem cr_165 {r : Nat} {a1 : Value} (e1 : jx_ns a1 = true) : jx_cr (d + 1) 165 [.ref r, a1] h = jx_eb d 165 0 [.ref r, a1, jx_un, jx_un, jx_un, jx_un] [] h := by
  have q : jx_PP.2.1 165 [.ref r, a1] = some [.ref r, a1, jx_un, jx_un, jx_un, jx_un] := by
    show jx_le [false, false] 6 [.ref r, a1] = _
    simp only [jx_le, jx_la_f jx_ns_r, jx_la_f e1, jx_la_n, Option.map_some]
    rfl
  simp only [jx_cr, q]
theorem eb_166_0 : jx_eb d 166 0 ls st h = jx_ev d 166 [.aload 0, .monitorenter, .aload 0, .iconst 6, .newarray .int, .multianewarray 1 211, .aload 0, .iconst 12, .newarray .int, .multianewarray 1 212, .aload 0, .iconst 6, .newarray .int, .multianewarray 1 213, .aload 0, .iconst 6, .newarray .int, .multianewarray 1 214, .aload 0, .iconst 6, .newarray .int, .multianewarray 1 215, .aload 0, .iconst 20, .newarray .int, .multianewarray 1 216, .aload 0, .iconst 6, .newarray .int, .multianewarray 1 217, .aload 0, .iconst 6, .newarray .int, .multianewarray 1 218, .aload 0, .iconst 6, .newarray .int, .multianewarray 1 219, .aload 0, .iconst 6, .newarray .int, .multianewarray 1 220, .aload 0, .iconst 560, .newarray .int, .multianewarray 1 221, .aload 0, .iconst 12, .newarray .long, .multianewarray 1 222, .return_] ls st h := rfl
theorem cr_166 {r : Nat}  : jx_cr (d + 1) 166 [.ref r] h = jx_eb d 166 0 [.ref r] [] h := rfl
theorem eb_167_0 : jx_eb d 167 0 ls st h = jx_ev d 167 [.aload 0, .aload 1, .invokeinterface 1 0, .multianewarray 1 0, .aload 0, .aload 1, .invokeinterface 1 1, .multianewarray 1 1, .aload 0, .aload 1, .invokeinterface 1 2, .multianewarray 1 2, .aload 0, .aload 1, .invokeinterface 1 3, .multianewarray 1 3, .aload 0, .aload 1, .invokeinterface 1 4, .multianewarray 1 4, .aload 0, .aload 1, .invokeinterface 1 5, .multianewarray 1 5, .aload 0, .aload 1, .invokeinterface 1 6, .multianewarray 1 6, .aload 1, .invokeinterface 1 11, .iconst 0, .aload 0, .invokeinterface 1 11, .iconst 0, .iconst 6, .monitorexit, .aload 1, .invokeinterface 1 12, .iconst 0, .aload 0, .invokeinterface 1 12, .iconst 0, .iconst 12, .monitorexit, .aload 1, .invokeinterface 1 13, .iconst 0, .aload 0, .invokeinterface 1 13, .iconst 0, .iconst 6, .monitorexit, .aload 1, .invokeinterface 1 14, .iconst 0, .aload 0, .invokeinterface 1 14, .iconst 0, .iconst 6, .monitorexit, .aload 1, .invokeinterface 1 15, .iconst 0, .aload 0, .invokeinterface 1 15, .iconst 0, .iconst 6, .monitorexit, .aload 1, .invokeinterface 1 16, .iconst 0, .aload 0, .invokeinterface 1 16, .iconst 0, .iconst 20, .monitorexit, .aload 1, .invokeinterface 1 21, .iconst 0, .aload 0, .invokeinterface 1 21, .iconst 0, .iconst 560, .monitorexit, .aload 0, .aload 1, .invokevirtual 11681, .areturn] ls st h := rfl
theorem cr_167 {r : Nat} {a1 : Value} (e1 : jx_ns a1 = true) : jx_cr (d + 1) 167 [.ref r, a1] h = jx_eb d 167 0 [.ref r, a1] [] h := by
  have q : jx_PP.2.1 167 [.ref r, a1] = some [.ref r, a1] := by
    show jx_le [false, false] 2 [.ref r, a1] = _
    simp only [jx_le, jx_la_f jx_ns_r, jx_la_f e1, jx_la_n, Option.map_some]
    rfl
  simp only [jx_cr, q]
theorem eb_168_0 : jx_eb d 168 0 ls st h = jx_ev d 168 [.aload 0, .aload 1, .invokeinterface 1 7, .multianewarray 1 7, .aload 0, .aload 1, .invokeinterface 1 8, .multianewarray 1 8, .aload 0, .aload 1, .invokeinterface 1 9, .multianewarray 1 9, .aload 0, .aload 1, .invokeinterface 1 10, .multianewarray 1 10, .aload 1, .invokeinterface 1 17, .iconst 0, .aload 0, .invokeinterface 1 17, .iconst 0, .iconst 6, .monitorexit, .aload 1, .invokeinterface 1 18, .iconst 0, .aload 0, .invokeinterface 1 18, .iconst 0, .iconst 6, .monitorexit, .aload 1, .invokeinterface 1 19, .iconst 0, .aload 0, .invokeinterface 1 19, .iconst 0, .iconst 6, .monitorexit, .aload 1, .invokeinterface 1 20, .iconst 0, .aload 0, .invokeinterface 1 20, .iconst 0, .iconst 6, .monitorexit, .aload 0, .areturn] ls st h := rfl
theorem cr_168 {r : Nat} {a1 : Value} (e1 : jx_ns a1 = true) : jx_cr (d + 1) 168 [.ref r, a1] h = jx_eb d 168 0 [.ref r, a1] [] h := by
  have q : jx_PP.2.1 168 [.ref r, a1] = some [.ref r, a1] := by
    show jx_le [false, false] 2 [.ref r, a1] = _
    simp only [jx_le, jx_la_f jx_ns_r, jx_la_f e1, jx_la_n, Option.map_some]
    rfl
  simp only [jx_cr, q]
theorem eb_169_0 : jx_eb d 169 0 ls st h = jx_ev d 169 [.iconst 28, .iload 1, .imul, .istore 2, .aload 0, .invokeinterface 1 21, .iload 2, .aload 0, .invokeinterface 1 7, .iastore, .aload 0, .invokeinterface 1 21, .iload 2, .iconst 1, .iadd, .aload 0, .invokeinterface 1 8, .iastore, .aload 0, .invokeinterface 1 21, .iload 2, .iconst 2, .iadd, .aload 0, .invokeinterface 1 9, .iastore, .aload 0, .invokeinterface 1 21, .iload 2, .iconst 3, .iadd, .aload 0, .invokeinterface 1 10, .iastore, .aload 0, .invokeinterface 1 17, .iconst 0, .aload 0, .invokeinterface 1 21, .iload 2, .iconst 4, .iadd, .iconst 6, .monitorexit, .aload 0, .invokeinterface 1 18, .iconst 0, .aload 0, .invokeinterface 1 21, .iload 2, .iconst 10, .iadd, .iconst 6, .monitorexit, .aload 0, .invokeinterface 1 19, .iconst 0, .aload 0, .invokeinterface 1 21, .iload 2, .iconst 16, .iadd, .iconst 6, .monitorexit, .aload 0, .invokeinterface 1 20, .iconst 0, .aload 0, .invokeinterface 1 21, .iload 2, .iconst 22, .iadd, .iconst 6, .monitorexit, .return_] ls st h := rfl
theorem cr_169 {r : Nat} {a1 : Int32}  : jx_cr (d + 1) 169 [.ref r, .int a1] h = jx_eb d 169 0 [.ref r, .int a1, jx_un] [] h := rfl
theorem eb_170_0 : jx_eb d 170 0 ls st h = jx_ev d 170 [.iconst 28, .iload 1, .imul, .istore 2, .aload 0, .aload 0, .invokeinterface 1 21, .iload 2, .iaload, .multianewarray 1 7, .aload 0, .aload 0, .invokeinterface 1 21, .iload 2, .iconst 1, .iadd, .iaload, .multianewarray 1 8, .aload 0, .aload 0, .invokeinterface 1 21, .iload 2, .iconst 2, .iadd, .iaload, .multianewarray 1 9, .aload 0, .aload 0, .invokeinterface 1 21, .iload 2, .iconst 3, .iadd, .iaload, .multianewarray 1 10, .aload 0, .invokeinterface 1 21, .iload 2, .iconst 4, .iadd, .aload 0, .invokeinterface 1 17, .iconst 0, .iconst 6, .monitorexit, .aload 0, .invokeinterface 1 21, .iload 2, .iconst 10, .iadd, .aload 0, .invokeinterface 1 18, .iconst 0, .iconst 6, .monitorexit, .aload 0, .invokeinterface 1 21, .iload 2, .iconst 16, .iadd, .aload 0, .invokeinterface 1 19, .iconst 0, .iconst 6, .monitorexit, .aload 0, .invokeinterface 1 21, .iload 2, .iconst 22, .iadd, .aload 0, .invokeinterface 1 20, .iconst 0, .iconst 6, .monitorexit, .return_] ls st h := rfl
theorem cr_170 {r : Nat} {a1 : Int32}  : jx_cr (d + 1) 170 [.ref r, .int a1] h = jx_eb d 170 0 [.ref r, .int a1, jx_un] [] h := rfl
theorem eb_171_0 : jx_eb d 171 0 ls st h = jx_ev d 171 [.aload 0, .iconst 0, .multianewarray 1 7, .aload 0, .iconst (-1), .multianewarray 1 8, .aload 0, .iconst (-1), .multianewarray 1 9, .aload 0, .iconst 0, .multianewarray 1 10, .iconst 0, .istore 1, .goto_w 22] ls st h := rfl
theorem eb_171_22 : jx_eb d 171 22 ls st h = jx_ev d 171 [.iload 1, .iconst 6, .if_icmp .ge 41, .aload 0, .invokeinterface 1 17, .iload 1, .iconst 0, .iastore, .iinc 1 1, .goto 22] ls st h := rfl
theorem eb_171_41 : jx_eb d 171 41 ls st h = jx_ev d 171 [.iconst 0, .istore 1, .goto_w 43] ls st h := rfl
theorem eb_171_43 : jx_eb d 171 43 ls st h = jx_ev d 171 [.iload 1, .iconst 6, .if_icmp .ge 81, .aload 0, .invokeinterface 1 18, .iload 1, .aload 0, .invokeinterface 1 14, .iload 1, .iaload, .iastore, .aload 0, .invokeinterface 1 19, .iload 1, .iconst 0, .iastore, .aload 0, .invokeinterface 1 20, .iload 1, .iconst 0, .iastore, .iinc 1 1, .goto 43] ls st h := rfl
theorem eb_171_81 : jx_eb d 171 81 ls st h = jx_ev d 171 [.return_] ls st h := rfl
theorem cr_171 {r : Nat}  : jx_cr (d + 1) 171 [.ref r] h = jx_eb d 171 0 [.ref r, jx_un] [] h := rfl
theorem eb_172_0 : jx_eb d 172 0 ls st h = jx_ev d 172 [.iconst 0, .istore 2, .iconst 0, .istore 3, .goto_w 4] ls st h := rfl
theorem eb_172_4 : jx_eb d 172 4 ls st h = jx_ev d 172 [.iload 3, .aload 0, .invokeinterface 1 2, .if_icmp .ge 44, .iload 2, .aload 0, .invokeinterface 1 19, .iload 1, .iaload, .iload 3, .invokestatic 22, .ifCond .eq 35, .aload 0, .invokeinterface 1 11, .iload 3, .iaload, .goto 36] ls st h := rfl
theorem eb_172_35 : jx_eb d 172 35 ls st h = jx_ev d 172 [.iconst 0, .goto_w 36] ls st h := rfl
theorem eb_172_36 : jx_eb d 172 36 ls st h = jx_ev d 172 [.iadd, .istore 2, .iinc 3 1, .goto 4] ls st h := rfl
theorem eb_172_44 : jx_eb d 172 44 ls st h = jx_ev d 172 [.iload 2, .ireturn] ls st h := rfl
theorem cr_172 {r : Nat} {a1 : Int32}  : jx_cr (d + 1) 172 [.ref r, .int a1] h = jx_eb d 172 0 [.ref r, .int a1, jx_un, jx_un] [] h := rfl
theorem eb_173_0 : jx_eb d 173 0 ls st h = jx_ev d 173 [.iconst 0, .istore 1, .iconst 0, .istore 2, .goto_w 4] ls st h := rfl
theorem eb_173_4 : jx_eb d 173 4 ls st h = jx_ev d 173 [.iload 2, .aload 0, .invokeinterface 1 3, .if_icmp .ge 26, .iload 1, .aload 0, .iload 2, .invokevirtual 11721, .iadd, .istore 1, .iinc 2 1, .goto 4] ls st h := rfl
theorem eb_173_26 : jx_eb d 173 26 ls st h = jx_ev d 173 [.iload 1, .ireturn] ls st h := rfl
theorem cr_173 {r : Nat}  : jx_cr (d + 1) 173 [.ref r] h = jx_eb d 173 0 [.ref r, jx_un, jx_un] [] h := rfl
theorem eb_174_0 : jx_eb d 174 0 ls st h = jx_ev d 174 [.iconst 0, .istore 2, .iconst 0, .istore 3, .goto_w 4] ls st h := rfl
theorem eb_174_4 : jx_eb d 174 4 ls st h = jx_ev d 174 [.iload 3, .aload 0, .invokeinterface 1 3, .if_icmp .ge 39, .iload 2, .aload 0, .invokeinterface 1 19, .iload 3, .iaload, .iload 1, .invokestatic 22, .ifCond .eq 30, .iconst 1, .goto 31] ls st h := rfl
theorem eb_174_30 : jx_eb d 174 30 ls st h = jx_ev d 174 [.iconst 0, .goto_w 31] ls st h := rfl
theorem eb_174_31 : jx_eb d 174 31 ls st h = jx_ev d 174 [.iadd, .istore 2, .iinc 3 1, .goto 4] ls st h := rfl
theorem eb_174_39 : jx_eb d 174 39 ls st h = jx_ev d 174 [.iload 2, .ireturn] ls st h := rfl
theorem cr_174 {r : Nat} {a1 : Int32}  : jx_cr (d + 1) 174 [.ref r, .int a1] h = jx_eb d 174 0 [.ref r, .int a1, jx_un, jx_un] [] h := rfl
theorem eb_175_0 : jx_eb d 175 0 ls st h = jx_ev d 175 [.iconst 0, .istore 1, .iconst 0, .istore 2, .goto_w 4] ls st h := rfl
theorem eb_175_4 : jx_eb d 175 4 ls st h = jx_ev d 175 [.iload 2, .aload 0, .invokeinterface 1 3, .if_icmp .ge 37, .iload 1, .aload 0, .invokeinterface 1 19, .iload 2, .iaload, .ifCond .eq 28, .iconst 1, .iload 2, .ishl, .goto 29] ls st h := rfl
theorem eb_175_28 : jx_eb d 175 28 ls st h = jx_ev d 175 [.iconst 0, .goto_w 29] ls st h := rfl
theorem eb_175_29 : jx_eb d 175 29 ls st h = jx_ev d 175 [.ior, .istore 1, .iinc 2 1, .goto 4] ls st h := rfl
theorem eb_175_37 : jx_eb d 175 37 ls st h = jx_ev d 175 [.iload 1, .ireturn] ls st h := rfl
theorem cr_175 {r : Nat}  : jx_cr (d + 1) 175 [.ref r] h = jx_eb d 175 0 [.ref r, jx_un, jx_un] [] h := rfl
theorem eb_176_0 : jx_eb d 176 0 ls st h = jx_ev d 176 [.aload 0, .invokeinterface 1 18, .iload 1, .iconst 999, .aload 0, .invokeinterface 1 18, .iload 1, .iaload, .iload 2, .iadd, .nop, .iastore, .return_] ls st h := rfl
theorem cr_176 {r : Nat} {a1 : Int32} {a2 : Int32}  : jx_cr (d + 1) 176 [.ref r, .int a1, .int a2] h = jx_eb d 176 0 [.ref r, .int a1, .int a2] [] h := rfl
theorem eb_177_0 : jx_eb d 177 0 ls st h = jx_ev d 177 [.iconst 0, .istore 3, .iconst 0, .istore 4, .iconst 0, .istore 5, .goto_w 8] ls st h := rfl
theorem eb_177_8 : jx_eb d 177 8 ls st h = jx_ev d 177 [.iload 5, .aload 0, .invokeinterface 1 3, .if_icmp .ge 59, .iload 3, .aload 0, .invokeinterface 1 18, .iload 5, .iaload, .aload 0, .invokeinterface 1 1, .if_icmp .lt 36, .iconst 1, .goto 37] ls st h := rfl
theorem eb_177_36 : jx_eb d 177 36 ls st h = jx_ev d 177 [.iconst 0, .goto_w 37] ls st h := rfl
theorem eb_177_37 : jx_eb d 177 37 ls st h = jx_ev d 177 [.iadd, .istore 3, .iload 4, .aload 0, .invokeinterface 1 18, .iload 5, .iaload, .swap, .istore 4, .iinc 5 1, .goto 8] ls st h := rfl
theorem eb_177_59 : jx_eb d 177 59 ls st h = jx_ev d 177 [.aload 0, .invokeinterface 1 22, .iconst 0, .iload 1, .i2l, .lastore, .aload 0, .invokeinterface 1 22, .iconst 1, .aload 0, .invokeinterface 1 11, .iload 1, .iaload, .i2l, .lastore, .aload 0, .invokeinterface 1 22, .iconst 2, .aload 0, .invokeinterface 1 7, .aload 0, .invokeinterface 1 0, .irem, .i2l, .lastore, .aload 0, .invokeinterface 1 22, .iconst 3, .aload 0, .invokeinterface 1 12, .aload 0, .invokeinterface 1 7, .aload 0, .invokeinterface 1 0, .irem, .iaload, .iload 1, .if_icmp .ne 123, .jsr 1, .goto 124] ls st h := rfl
theorem eb_177_123 : jx_eb d 177 123 ls st h = jx_ev d 177 [.jsr 0, .goto_w 124] ls st h := rfl
theorem eb_177_124 : jx_eb d 177 124 ls st h = jx_ev d 177 [.lastore, .aload 0, .invokeinterface 1 22, .iconst 4, .aload 0, .invokeinterface 1 8, .iload 1, .if_icmp .ne 142, .jsr 1, .goto 143] ls st h := rfl
theorem eb_177_142 : jx_eb d 177 142 ls st h = jx_ev d 177 [.jsr 0, .goto_w 143] ls st h := rfl
theorem eb_177_143 : jx_eb d 177 143 ls st h = jx_ev d 177 [.lastore, .aload 0, .invokeinterface 1 22, .iconst 5, .aload 0, .invokeinterface 1 17, .iload 1, .iaload, .i2l, .lastore, .aload 0, .invokeinterface 1 22, .iconst 6, .aload 0, .iload 1, .invokevirtual 11741, .i2l, .lastore, .aload 0, .invokeinterface 1 22, .iconst 7, .iload 3, .i2l, .lastore, .aload 0, .invokeinterface 1 22, .iconst 8, .aload 0, .invokevirtual 11750, .invokestatic 2271, .i2l, .lastore, .aload 0, .invokeinterface 1 22, .iconst 9, .iload 4, .i2l, .lastore, .aload 0, .invokeinterface 1 22, .iconst 10, .aload 0, .invokeinterface 1 3, .i2l, .lastore, .aload 0, .invokeinterface 1 22, .iconst 11, .aload 0, .invokeinterface 1 7, .i2l, .lastore, .aload 2, .aload 0, .invokeinterface 1 22, .invokevirtual 51911, .lreturn] ls st h := rfl
theorem cr_177 {r : Nat} {a1 : Int32} {a2 : Value} (e2 : jx_ns a2 = true) : jx_cr (d + 1) 177 [.ref r, .int a1, a2] h = jx_eb d 177 0 [.ref r, .int a1, a2, jx_un, jx_un, jx_un] [] h := by
  have q : jx_PP.2.1 177 [.ref r, .int a1, a2] = some [.ref r, .int a1, a2, jx_un, jx_un, jx_un] := by
    show jx_le [false, false, false] 6 [.ref r, .int a1, a2] = _
    simp only [jx_le, jx_la_f jx_ns_r, jx_la_f jx_ns_i, jx_la_f e2, jx_la_n, Option.map_some]
    rfl
  simp only [jx_cr, q]
theorem eb_178_0 : jx_eb d 178 0 ls st h = jx_ev d 178 [.aload 0, .invokeinterface 1 10, .ifCond .le 9, .iconst (-1), .ireturn] ls st h := rfl
theorem eb_178_9 : jx_eb d 178 9 ls st h = jx_ev d 178 [.aload 0, .invokeinterface 1 9, .iconst (-1), .if_icmp .eq 22, .aload 0, .invokeinterface 1 9, .ireturn] ls st h := rfl
theorem eb_178_22 : jx_eb d 178 22 ls st h = jx_ev d 178 [.aload 1, .ifnonnull 41, .aload 0, .invokeinterface 1 12, .aload 0, .invokeinterface 1 7, .aload 0, .invokeinterface 1 0, .irem, .iaload, .ireturn] ls st h := rfl
theorem eb_178_41 : jx_eb d 178 41 ls st h = jx_ev d 178 [.iconst (-1), .istore 2, .jsr 0, .lstore 3, .iconst 0, .istore 5, .goto_w 48] ls st h := rfl
theorem eb_178_48 : jx_eb d 178 48 ls st h = jx_ev d 178 [.iload 5, .aload 0, .invokeinterface 1 2, .if_icmp .ge 88, .aload 0, .iload 5, .aload 1, .invokevirtual 11772, .lstore 6, .lload 6, .lload 3, .lcmp, .ifCond .gt 76, .goto 82] ls st h := rfl
theorem eb_178_76 : jx_eb d 178 76 ls st h = jx_ev d 178 [.iload 5, .istore 2, .lload 6, .lstore 3, .goto_w 82] ls st h := rfl
theorem eb_178_82 : jx_eb d 178 82 ls st h = jx_ev d 178 [.iinc 5 1, .goto 48] ls st h := rfl
theorem eb_178_88 : jx_eb d 178 88 ls st h = jx_ev d 178 [.iload 2, .ireturn] ls st h := rfl
theorem cr_178 {r : Nat} {a1 : Value} (e1 : jx_ns a1 = true) : jx_cr (d + 1) 178 [.ref r, a1] h = jx_eb d 178 0 [.ref r, a1, jx_un, jx_un, jx_un, jx_un, jx_un, jx_un] [] h := by
  have q : jx_PP.2.1 178 [.ref r, a1] = some [.ref r, a1, jx_un, jx_un, jx_un, jx_un, jx_un, jx_un] := by
    show jx_le [false, false] 8 [.ref r, a1] = _
    simp only [jx_le, jx_la_f jx_ns_r, jx_la_f e1, jx_la_n, Option.map_some]
    rfl
  simp only [jx_cr, q]
theorem eb_179_0 : jx_eb d 179 0 ls st h = jx_ev d 179 [.aload 0, .invokeinterface 1 8, .iconst (-1), .if_icmp .ne 21, .aload 0, .invokeinterface 1 20, .iload 1, .dup2, .iaload, .iconst 1, .iadd, .iastore, .goto 36] ls st h := rfl
theorem eb_179_21 : jx_eb d 179 21 ls st h = jx_ev d 179 [.aload 0, .invokeinterface 1 19, .iload 1, .dup2, .iaload, .iconst 1, .aload 0, .invokeinterface 1 8, .ishl, .ior, .iastore, .goto_w 36] ls st h := rfl
theorem eb_179_36 : jx_eb d 179 36 ls st h = jx_ev d 179 [.aload 0, .invokeinterface 1 18, .iload 1, .iconst 0, .iastore, .return_] ls st h := rfl
theorem cr_179 {r : Nat} {a1 : Int32}  : jx_cr (d + 1) 179 [.ref r, .int a1] h = jx_eb d 179 0 [.ref r, .int a1] [] h := rfl
theorem eb_180_0 : jx_eb d 180 0 ls st h = jx_ev d 180 [.aload 0, .aload 0, .aload 1, .invokevirtual 11781, .multianewarray 1 8, .aload 0, .invokeinterface 1 8, .iconst (-1), .if_icmp .eq 30, .aload 0, .invokeinterface 1 17, .aload 0, .invokeinterface 1 8, .dup2, .iaload, .iconst 1, .iadd, .iastore, .goto_w 30] ls st h := rfl
theorem eb_180_30 : jx_eb d 180 30 ls st h = jx_ev d 180 [.aload 0, .iconst (-1), .multianewarray 1 9, .aload 0, .iconst 0, .aload 0, .invokeinterface 1 10, .iconst 1, .isub, .swap, .multianewarray 1 10, .iconst 0, .istore 2, .iconst 0, .istore 3, .goto_w 53] ls st h := rfl
theorem eb_180_53 : jx_eb d 180 53 ls st h = jx_ev d 180 [.iload 3, .aload 0, .invokeinterface 1 3, .if_icmp .ge 78, .aload 0, .iload 3, .aload 0, .invokeinterface 1 15, .iload 3, .iaload, .invokevirtual 11762, .iinc 3 1, .goto 53] ls st h := rfl
theorem eb_180_78 : jx_eb d 180 78 ls st h = jx_ev d 180 [.iconst 0, .istore 3, .goto_w 80] ls st h := rfl
theorem eb_180_80 : jx_eb d 180 80 ls st h = jx_ev d 180 [.iload 3, .aload 0, .invokeinterface 1 3, .if_icmp .ge 121, .aload 0, .invokeinterface 1 18, .iload 3, .iaload, .aload 0, .invokeinterface 1 1, .if_icmp .ge 104, .goto 115] ls st h := rfl
theorem eb_180_104 : jx_eb d 180 104 ls st h = jx_ev d 180 [.aload 0, .iload 3, .invokevirtual 11791, .iload 2, .iconst 1, .iload 3, .ishl, .ior, .istore 2, .goto_w 115] ls st h := rfl
theorem eb_180_115 : jx_eb d 180 115 ls st h = jx_ev d 180 [.iinc 3 1, .goto 80] ls st h := rfl
theorem eb_180_121 : jx_eb d 180 121 ls st h = jx_ev d 180 [.aload 0, .dup, .invokeinterface 1 7, .iconst 1, .iadd, .multianewarray 1 7, .iload 2, .ireturn] ls st h := rfl
theorem cr_180 {r : Nat} {a1 : Value} (e1 : jx_ns a1 = true) : jx_cr (d + 1) 180 [.ref r, a1] h = jx_eb d 180 0 [.ref r, a1, jx_un, jx_un] [] h := by
  have q : jx_PP.2.1 180 [.ref r, a1] = some [.ref r, a1, jx_un, jx_un] := by
    show jx_le [false, false] 4 [.ref r, a1] = _
    simp only [jx_le, jx_la_f jx_ns_r, jx_la_f e1, jx_la_n, Option.map_some]
    rfl
  simp only [jx_cr, q]
theorem eb_181_0 : jx_eb d 181 0 ls st h = jx_ev d 181 [.iconst 0, .istore 3, .goto_w 2] ls st h := rfl
theorem eb_181_2 : jx_eb d 181 2 ls st h = jx_ev d 181 [.iload 3, .iload 1, .if_icmp .ge 19, .aload 0, .aload 2, .invokevirtual 11801, .pop, .iinc 3 1, .goto 2] ls st h := rfl
theorem eb_181_19 : jx_eb d 181 19 ls st h = jx_ev d 181 [.aload 0, .areturn] ls st h := rfl
theorem cr_181 {r : Nat} {a1 : Int32} {a2 : Value} (e2 : jx_ns a2 = true) : jx_cr (d + 1) 181 [.ref r, .int a1, a2] h = jx_eb d 181 0 [.ref r, .int a1, a2, jx_un] [] h := by
  have q : jx_PP.2.1 181 [.ref r, .int a1, a2] = some [.ref r, .int a1, a2, jx_un] := by
    show jx_le [false, false, false] 4 [.ref r, .int a1, a2] = _
    simp only [jx_le, jx_la_f jx_ns_r, jx_la_f jx_ns_i, jx_la_f e2, jx_la_n, Option.map_some]
    rfl
  simp only [jx_cr, q]
theorem eb_182_0 : jx_eb d 182 0 ls st h = jx_ev d 182 [.aload 0, .ldc 0, .aconst_null, .iconst 0, .iconst 0, .invokespecial 2284, .return_] ls st h := rfl
theorem cr_182 {r : Nat}  : jx_cr (d + 1) 182 [.ref r] h = jx_eb d 182 0 [.ref r] [] h := rfl
theorem eb_183_0 : jx_eb d 183 0 ls st h = jx_ev d 183 [.aload 0, .monitorenter, .aload 0, .new 1, .dup, .invokespecial 1660, .multianewarray 15 200, .return_] ls st h := rfl
theorem cr_183 {r : Nat}  : jx_cr (d + 1) 183 [.ref r] h = jx_eb d 183 0 [.ref r] [] h := rfl
theorem eb_184_0 : jx_eb d 184 0 ls st h = jx_ev d 184 [.aload 0, .invokespecial 1920, .aload 0, .aload 1, .multianewarray 12 200, .return_] ls st h := rfl
theorem cr_184 {r : Nat} {a1 : Value} (e1 : jx_ns a1 = true) : jx_cr (d + 1) 184 [.ref r, a1] h = jx_eb d 184 0 [.ref r, a1] [] h := by
  have q : jx_PP.2.1 184 [.ref r, a1] = some [.ref r, a1] := by
    show jx_le [false, false] 2 [.ref r, a1] = _
    simp only [jx_le, jx_la_f jx_ns_r, jx_la_f e1, jx_la_n, Option.map_some]
    rfl
  simp only [jx_cr, q]
theorem eb_185_0 : jx_eb d 185 0 ls st h = jx_ev d 185 [.aload 0, .invokeinterface 12 0, .aload 1, .fload 11, .ifCond .ne 15, .iconst 1, .goto 16] ls st h := rfl
theorem eb_185_15 : jx_eb d 185 15 ls st h = jx_ev d 185 [.iconst 0, .goto_w 16] ls st h := rfl
theorem eb_185_16 : jx_eb d 185 16 ls st h = jx_ev d 185 [.freturn] ls st h := rfl
theorem cr_185 {r : Nat} {a1 : Value} (e1 : jx_ns a1 = true) : jx_cr (d + 1) 185 [.ref r, a1] h = jx_eb d 185 0 [.ref r, a1] [] h := by
  have q : jx_PP.2.1 185 [.ref r, a1] = some [.ref r, a1] := by
    show jx_le [false, false] 2 [.ref r, a1] = _
    simp only [jx_le, jx_la_f jx_ns_r, jx_la_f e1, jx_la_n, Option.map_some]
    rfl
  simp only [jx_cr, q]
theorem eb_186_0 : jx_eb d 186 0 ls st h = jx_ev d 186 [.aload 0, .invokespecial 2220, .aload 0, .lload 1, .multianewarray 8 100, .return_] ls st h := rfl
theorem cr_186 {r : Nat} {a1 : Int64}  : jx_cr (d + 1) 186 [.ref r, .long a1] h = jx_eb d 186 0 [.ref r, .long a1, jx_sn] [] h := rfl
theorem eb_187_0 : jx_eb d 187 0 ls st h = jx_ev d 187 [.aload 0, .invokeinterface 8 0, .lreturn] ls st h := rfl
theorem cr_187 {r : Nat} {a1 : Value} (e1 : jx_ns a1 = true) : jx_cr (d + 1) 187 [.ref r, a1] h = jx_eb d 187 0 [.ref r, a1] [] h := by
  have q : jx_PP.2.1 187 [.ref r, a1] = some [.ref r, a1] := by
    show jx_le [false, false] 2 [.ref r, a1] = _
    simp only [jx_le, jx_la_f jx_ns_r, jx_la_f e1, jx_la_n, Option.map_some]
    rfl
  simp only [jx_cr, q]
theorem eb_188_0 : jx_eb d 188 0 ls st h = jx_ev d 188 [.aload 0, .invokespecial 2220, .aload 0, .aload 1, .multianewarray 10 200, .aload 0, .iload 2, .multianewarray 10 2, .aload 0, .aload 3, .multianewarray 10 201, .return_] ls st h := rfl
theorem cr_188 {r : Nat} {a1 : Value} {a2 : Int32} {a3 : Value} (e1 : jx_ns a1 = true) (e3 : jx_ns a3 = true) : jx_cr (d + 1) 188 [.ref r, a1, .int a2, a3] h = jx_eb d 188 0 [.ref r, a1, .int a2, a3] [] h := by
  have q : jx_PP.2.1 188 [.ref r, a1, .int a2, a3] = some [.ref r, a1, .int a2, a3] := by
    show jx_le [false, false, false, false] 4 [.ref r, a1, .int a2, a3] = _
    simp only [jx_le, jx_la_f jx_ns_r, jx_la_f e1, jx_la_f jx_ns_i, jx_la_f e3, jx_la_n, Option.map_some]
    rfl
  simp only [jx_cr, q]
theorem eb_189_0 : jx_eb d 189 0 ls st h = jx_ev d 189 [.aload 0, .invokeinterface 10 0, .aload 1, .fload 1, .lstore 2, .aload 0, .invokeinterface 10 1, .aload 1, .fload 1, .lstore 4, .aload 0, .invokeinterface 10 2, .tableswitch 103 37 45 #[87, 103, 103, 103, 103, 82, 72, 103, 77]] ls st h := rfl
theorem eb_189_72 : jx_eb d 189 72 ls st h = jx_ev d 189 [.lload 2, .lload 4, .ladd, .lreturn] ls st h := rfl
theorem eb_189_77 : jx_eb d 189 77 ls st h = jx_ev d 189 [.lload 2, .lload 4, .lsub, .lreturn] ls st h := rfl
theorem eb_189_82 : jx_eb d 189 82 ls st h = jx_ev d 189 [.lload 2, .lload 4, .lmul, .lreturn] ls st h := rfl
theorem eb_189_87 : jx_eb d 189 87 ls st h = jx_ev d 189 [.lload 4, .jsr 0, .lcmp, .ifCond .ne 98, .jsr 0, .goto 102] ls st h := rfl
theorem eb_189_98 : jx_eb d 189 98 ls st h = jx_ev d 189 [.lload 2, .lload 4, .lrem, .goto_w 102] ls st h := rfl
theorem eb_189_102 : jx_eb d 189 102 ls st h = jx_ev d 189 [.lreturn] ls st h := rfl
theorem eb_189_103 : jx_eb d 189 103 ls st h = jx_ev d 189 [.lload 4, .jsr 0, .lcmp, .ifCond .ne 114, .jsr 0, .goto 118] ls st h := rfl
theorem eb_189_114 : jx_eb d 189 114 ls st h = jx_ev d 189 [.lload 2, .lload 4, .ldiv, .goto_w 118] ls st h := rfl
theorem eb_189_118 : jx_eb d 189 118 ls st h = jx_ev d 189 [.lreturn] ls st h := rfl
theorem cr_189 {r : Nat} {a1 : Value} (e1 : jx_ns a1 = true) : jx_cr (d + 1) 189 [.ref r, a1] h = jx_eb d 189 0 [.ref r, a1, jx_un, jx_un, jx_un, jx_un] [] h := by
  have q : jx_PP.2.1 189 [.ref r, a1] = some [.ref r, a1, jx_un, jx_un, jx_un, jx_un] := by
    show jx_le [false, false] 6 [.ref r, a1] = _
    simp only [jx_le, jx_la_f jx_ns_r, jx_la_f e1, jx_la_n, Option.map_some]
    rfl
  simp only [jx_cr, q]
theorem eb_190_0 : jx_eb d 190 0 ls st h = jx_ev d 190 [.aload 0, .monitorenter, .aload 0, .iconst 12, .anewarray 6, .multianewarray 5 200, .return_] ls st h := rfl
theorem cr_190 {r : Nat}  : jx_cr (d + 1) 190 [.ref r] h = jx_eb d 190 0 [.ref r] [] h := rfl
theorem eb_191_0 : jx_eb d 191 0 ls st h = jx_ev d 191 [.iconst 0, .istore 2, .goto_w 2] ls st h := rfl
theorem eb_191_2 : jx_eb d 191 2 ls st h = jx_ev d 191 [.iload 2, .aload 0, .invokeinterface 5 1, .if_icmp .ge 43, .aload 0, .invokeinterface 5 0, .iload 2, .aaload, .aload 1, .invokevirtual 61631, .ifCond .eq 37, .aload 0, .invokeinterface 5 0, .iload 2, .aaload, .invokeinterface 6 0, .aload 1, .fload 1, .lreturn] ls st h := rfl
theorem eb_191_37 : jx_eb d 191 37 ls st h = jx_ev d 191 [.iinc 2 1, .goto 2] ls st h := rfl
theorem eb_191_43 : jx_eb d 191 43 ls st h = jx_ev d 191 [.jsr 0, .lreturn] ls st h := rfl
theorem cr_191 {r : Nat} {a1 : Value} (e1 : jx_ns a1 = true) : jx_cr (d + 1) 191 [.ref r, a1] h = jx_eb d 191 0 [.ref r, a1, jx_un] [] h := by
  have q : jx_PP.2.1 191 [.ref r, a1] = some [.ref r, a1, jx_un] := by
    show jx_le [false, false] 3 [.ref r, a1] = _
    simp only [jx_le, jx_la_f jx_ns_r, jx_la_f e1, jx_la_n, Option.map_some]
    rfl
  simp only [jx_cr, q]
theorem eb_192_0 : jx_eb d 192 0 ls st h = jx_ev d 192 [.aload 0, .monitorenter, .return_] ls st h := rfl
theorem cr_192 {r : Nat}  : jx_cr (d + 1) 192 [.ref r] h = jx_eb d 192 0 [.ref r] [] h := rfl
theorem eb_193_0 : jx_eb d 193 0 ls st h = jx_ev d 193 [.aload 0, .aload 1, .multianewarray 4 206, .aload 0, .monitorenter, .aload 0, .aload 0, .invokeinterface 4 6, .invokeinterface 0 12, .multianewarray 4 200, .aload 0, .aload 0, .invokeinterface 4 6, .invokeinterface 0 3, .multianewarray 4 201, .return_] ls st h := rfl
theorem cr_193 {r : Nat} {a1 : Value} (e1 : jx_ns a1 = true) : jx_cr (d + 1) 193 [.ref r, a1] h = jx_eb d 193 0 [.ref r, a1] [] h := by
  have q : jx_PP.2.1 193 [.ref r, a1] = some [.ref r, a1] := by
    show jx_le [false, false] 2 [.ref r, a1] = _
    simp only [jx_le, jx_la_f jx_ns_r, jx_la_f e1, jx_la_n, Option.map_some]
    rfl
  simp only [jx_cr, q]
theorem eb_194_0 : jx_eb d 194 0 ls st h = jx_ev d 194 [.iload 1, .ifCond .eq 5, .return_] ls st h := rfl
theorem eb_194_5 : jx_eb d 194 5 ls st h = jx_ev d 194 [.aload 0, .invokeinterface 4 6, .invokeinterface 0 7, .iload 2, .multianewarray 2 6, .aload 0, .invokeinterface 4 6, .invokeinterface 0 7, .iload 3, .multianewarray 2 7, .aload 0, .invokeinterface 4 6, .invokeinterface 0 7, .athrow] ls st h := rfl
theorem cr_194 {r : Nat} {a1 : Int32} {a2 : Int32} {a3 : Int32}  : jx_cr (d + 1) 194 [.ref r, .int a1, .int a2, .int a3] h = jx_eb d 194 0 [.ref r, .int a1, .int a2, .int a3] [] h := rfl
theorem eb_195_0 : jx_eb d 195 0 ls st h = jx_ev d 195 [.aload 0, .invokeinterface 4 2, .aload 0, .invokeinterface 4 6, .invokeinterface 0 9, .if_icmp .ge 44, .aload 0, .invokeinterface 4 6, .invokeinterface 0 8, .aload 0, .invokeinterface 4 2, .baload, .iconst 32, .if_icmp .ne 44, .aload 0, .dup, .invokeinterface 4 2, .iconst 1, .iadd, .multianewarray 4 2, .goto 0] ls st h := rfl
theorem eb_195_44 : jx_eb d 195 44 ls st h = jx_ev d 195 [.aload 0, .invokeinterface 4 2, .aload 0, .invokeinterface 4 6, .invokeinterface 0 9, .if_icmp .ge 77, .aload 0, .invokeinterface 4 6, .invokeinterface 0 8, .aload 0, .invokeinterface 4 2, .baload, .iconst 255, .iand, .goto 78] ls st h := rfl
theorem eb_195_77 : jx_eb d 195 77 ls st h = jx_ev d 195 [.iconst (-1), .goto_w 78] ls st h := rfl
theorem eb_195_78 : jx_eb d 195 78 ls st h = jx_ev d 195 [.ireturn] ls st h := rfl
theorem cr_195 {r : Nat}  : jx_cr (d + 1) 195 [.ref r] h = jx_eb d 195 0 [.ref r] [] h := rfl
theorem eb_196_0 : jx_eb d 196 0 ls st h = jx_ev d 196 [.aload 0, .invokevirtual 41950, .iload 1, .if_icmp .eq 10, .iconst 0, .freturn] ls st h := rfl
theorem eb_196_10 : jx_eb d 196 10 ls st h = jx_ev d 196 [.aload 0, .dup, .invokeinterface 4 2, .iconst 1, .iadd, .multianewarray 4 2, .iconst 1, .freturn] ls st h := rfl
theorem cr_196 {r : Nat} {a1 : Int32}  : jx_cr (d + 1) 196 [.ref r, .int a1] h = jx_eb d 196 0 [.ref r, .int a1] [] h := rfl
theorem eb_197_0 : jx_eb d 197 0 ls st h = jx_ev d 197 [.aload 0, .invokevirtual 41950, .pop, .iconst 0, .istore 1, .goto_w 7] ls st h := rfl
theorem eb_197_7 : jx_eb d 197 7 ls st h = jx_ev d 197 [.aload 0, .invokeinterface 4 2, .iload 1, .iadd, .aload 0, .invokeinterface 4 6, .invokeinterface 0 9, .if_icmp .ge 67, .aload 0, .invokeinterface 4 6, .invokeinterface 0 8, .aload 0, .invokeinterface 4 2, .iload 1, .iadd, .baload, .iconst 97, .if_icmp .lt 67, .aload 0, .invokeinterface 4 6, .invokeinterface 0 8, .aload 0, .invokeinterface 4 2, .iload 1, .iadd, .baload, .iconst 122, .if_icmp .gt 67, .iinc 1 1, .goto 7] ls st h := rfl
theorem eb_197_67 : jx_eb d 197 67 ls st h = jx_ev d 197 [.iload 1, .ireturn] ls st h := rfl
theorem cr_197 {r : Nat}  : jx_cr (d + 1) 197 [.ref r] h = jx_eb d 197 0 [.ref r, jx_un] [] h := rfl
theorem eb_198_0 : jx_eb d 198 0 ls st h = jx_ev d 198 [.aload 0, .invokevirtual 41970, .istore 2, .iload 2, .aload 1, .invokevirtual 192330, .if_icmp .ne 17, .iconst 1, .goto 18] ls st h := rfl
theorem eb_198_17 : jx_eb d 198 17 ls st h = jx_ev d 198 [.iconst 0, .goto_w 18] ls st h := rfl
theorem eb_198_18 : jx_eb d 198 18 ls st h = jx_ev d 198 [.istore 3, .iconst 0, .istore 4, .goto_w 22] ls st h := rfl
theorem eb_198_22 : jx_eb d 198 22 ls st h = jx_ev d 198 [.iload 3, .ifCond .eq 68, .iload 4, .iload 2, .if_icmp .ge 68, .aload 1, .iload 4, .invokevirtual 192291, .aload 0, .invokeinterface 4 6, .invokeinterface 0 8, .aload 0, .invokeinterface 4 2, .iload 4, .iadd, .baload, .if_icmp .ne 60, .iconst 1, .goto 61] ls st h := rfl
theorem eb_198_60 : jx_eb d 198 60 ls st h = jx_ev d 198 [.iconst 0, .goto_w 61] ls st h := rfl
theorem eb_198_61 : jx_eb d 198 61 ls st h = jx_ev d 198 [.istore 3, .iinc 4 1, .goto 22] ls st h := rfl
theorem eb_198_68 : jx_eb d 198 68 ls st h = jx_ev d 198 [.iload 3, .freturn] ls st h := rfl
theorem cr_198 {r : Nat} {a1 : Value} (e1 : jx_ns a1 = true) : jx_cr (d + 1) 198 [.ref r, a1] h = jx_eb d 198 0 [.ref r, a1, jx_un, jx_un, jx_un] [] h := by
  have q : jx_PP.2.1 198 [.ref r, a1] = some [.ref r, a1, jx_un, jx_un, jx_un] := by
    show jx_le [false, false] 5 [.ref r, a1] = _
    simp only [jx_le, jx_la_f jx_ns_r, jx_la_f e1, jx_la_n, Option.map_some]
    rfl
  simp only [jx_cr, q]
theorem eb_199_0 : jx_eb d 199 0 ls st h = jx_ev d 199 [.aload 0, .aload 1, .invokevirtual 41981, .ifCond .ne 10, .iconst 0, .freturn] ls st h := rfl
theorem eb_199_10 : jx_eb d 199 10 ls st h = jx_ev d 199 [.aload 0, .dup, .invokeinterface 4 2, .aload 1, .invokevirtual 192330, .iadd, .multianewarray 4 2, .iconst 1, .freturn] ls st h := rfl
theorem cr_199 {r : Nat} {a1 : Value} (e1 : jx_ns a1 = true) : jx_cr (d + 1) 199 [.ref r, a1] h = jx_eb d 199 0 [.ref r, a1] [] h := by
  have q : jx_PP.2.1 199 [.ref r, a1] = some [.ref r, a1] := by
    show jx_le [false, false] 2 [.ref r, a1] = _
    simp only [jx_le, jx_la_f jx_ns_r, jx_la_f e1, jx_la_n, Option.map_some]
    rfl
  simp only [jx_cr, q]
theorem eb_200_0 : jx_eb d 200 0 ls st h = jx_ev d 200 [.iconst 0, .istore 2, .goto_w 2] ls st h := rfl
theorem eb_200_2 : jx_eb d 200 2 ls st h = jx_ev d 200 [.iload 2, .aload 1, .arraylength, .if_icmp .ge 26, .aload 0, .aload 1, .iload 2, .aaload, .invokevirtual 41981, .ifCond .eq 20, .iload 2, .ireturn] ls st h := rfl
theorem eb_200_20 : jx_eb d 200 20 ls st h = jx_ev d 200 [.iinc 2 1, .goto 2] ls st h := rfl
theorem eb_200_26 : jx_eb d 200 26 ls st h = jx_ev d 200 [.iconst (-1), .ireturn] ls st h := rfl
theorem cr_200 {r : Nat} {a1 : Value} (e1 : jx_ns a1 = true) : jx_cr (d + 1) 200 [.ref r, a1] h = jx_eb d 200 0 [.ref r, a1, jx_un] [] h := by
  have q : jx_PP.2.1 200 [.ref r, a1] = some [.ref r, a1, jx_un] := by
    show jx_le [false, false] 3 [.ref r, a1] = _
    simp only [jx_le, jx_la_f jx_ns_r, jx_la_f e1, jx_la_n, Option.map_some]
    rfl
  simp only [jx_cr, q]
theorem eb_201_0 : jx_eb d 201 0 ls st h = jx_ev d 201 [.iload 1, .aload 0, .invokeinterface 4 6, .invokeinterface 0 9, .if_icmp .ge 43, .aload 0, .invokeinterface 4 6, .invokeinterface 0 8, .iload 1, .baload, .iconst 48, .if_icmp .lt 43, .aload 0, .invokeinterface 4 6, .invokeinterface 0 8, .iload 1, .baload, .iconst 57, .if_icmp .gt 43, .iconst 1, .goto 44] ls st h := rfl
theorem eb_201_43 : jx_eb d 201 43 ls st h = jx_ev d 201 [.iconst 0, .goto_w 44] ls st h := rfl
theorem eb_201_44 : jx_eb d 201 44 ls st h = jx_ev d 201 [.freturn] ls st h := rfl
theorem cr_201 {r : Nat} {a1 : Int32}  : jx_cr (d + 1) 201 [.ref r, .int a1] h = jx_eb d 201 0 [.ref r, .int a1] [] h := rfl
theorem eb_202_0 : jx_eb d 202 0 ls st h = jx_ev d 202 [.aload 0, .invokevirtual 41950, .pop, .aload 0, .invokeinterface 4 2, .istore 3, .aload 0, .aload 0, .iload 3, .invokevirtual 42011, .iconst 0, .iload 3, .invokevirtual 41943, .iconst 0, .istore 4, .goto_w 24] ls st h := rfl
theorem eb_202_24 : jx_eb d 202 24 ls st h = jx_ev d 202 [.aload 0, .aload 0, .invokeinterface 4 2, .invokevirtual 42011, .ifCond .eq 81, .aload 0, .invokeinterface 4 2, .iload 3, .isub, .iconst 5, .if_icmp .ge 68, .iconst 10, .iload 4, .imul, .aload 0, .invokeinterface 4 6, .invokeinterface 0 8, .aload 0, .invokeinterface 4 2, .baload, .iadd, .iconst 48, .isub, .istore 4, .goto_w 68] ls st h := rfl
theorem eb_202_68 : jx_eb d 202 68 ls st h = jx_ev d 202 [.aload 0, .dup, .invokeinterface 4 2, .iconst 1, .iadd, .multianewarray 4 2, .goto 24] ls st h := rfl
theorem eb_202_81 : jx_eb d 202 81 ls st h = jx_ev d 202 [.aload 0, .aload 0, .invokeinterface 4 2, .iload 3, .isub, .iconst 5, .if_icmp .gt 109, .iload 4, .i2l, .iload 1, .i2l, .iload 2, .i2l, .invokestatic 13, .ifCond .eq 109, .iconst 1, .goto 110] ls st h := rfl
theorem eb_202_109 : jx_eb d 202 109 ls st h = jx_ev d 202 [.iconst 0, .goto_w 110] ls st h := rfl
theorem eb_202_110 : jx_eb d 202 110 ls st h = jx_ev d 202 [.iconst 1, .iload 3, .invokevirtual 41943, .iload 4, .ireturn] ls st h := rfl
theorem cr_202 {r : Nat} {a1 : Int32} {a2 : Int32}  : jx_cr (d + 1) 202 [.ref r, .int a1, .int a2] h = jx_eb d 202 0 [.ref r, .int a1, .int a2, jx_un, jx_un] [] h := rfl
theorem eb_203_0 : jx_eb d 203 0 ls st h = jx_ev d 203 [.aload 0, .aload 0, .invokeinterface 4 4, .iconst 60, .if_icmp .ge 14, .iconst 1, .goto 15] ls st h := rfl
theorem eb_203_14 : jx_eb d 203 14 ls st h = jx_ev d 203 [.iconst 0, .goto_w 15] ls st h := rfl
theorem eb_203_15 : jx_eb d 203 15 ls st h = jx_ev d 203 [.iconst 3, .iload 1, .invokevirtual 41943, .aload 0, .dup, .invokeinterface 4 4, .iconst 1, .iadd, .multianewarray 4 4, .return_] ls st h := rfl
theorem cr_203 {r : Nat} {a1 : Int32}  : jx_cr (d + 1) 203 [.ref r, .int a1] h = jx_eb d 203 0 [.ref r, .int a1] [] h := rfl
theorem eb_204_0 : jx_eb d 204 0 ls st h = jx_ev d 204 [.aload 0, .aload 0, .invokeinterface 4 3, .iconst 10, .if_icmp .ge 14, .iconst 1, .goto 15] ls st h := rfl
theorem eb_204_14 : jx_eb d 204 14 ls st h = jx_ev d 204 [.iconst 0, .goto_w 15] ls st h := rfl
theorem eb_204_15 : jx_eb d 204 15 ls st h = jx_ev d 204 [.iconst 2, .iload 1, .invokevirtual 41943, .aload 0, .dup, .invokeinterface 4 3, .iconst 1, .iadd, .multianewarray 4 3, .return_] ls st h := rfl
theorem cr_204 {r : Nat} {a1 : Int32}  : jx_cr (d + 1) 204 [.ref r, .int a1] h = jx_eb d 204 0 [.ref r, .int a1] [] h := rfl
theorem eb_205_0 : jx_eb d 205 0 ls st h = jx_ev d 205 [.aload 0, .aload 0, .invokevirtual 41950, .iconst (-1), .if_icmp .ne 13, .iconst 1, .goto 14] ls st h := rfl
theorem eb_205_13 : jx_eb d 205 13 ls st h = jx_ev d 205 [.iconst 0, .goto_w 14] ls st h := rfl
theorem eb_205_14 : jx_eb d 205 14 ls st h = jx_ev d 205 [.iconst 0, .aload 0, .invokeinterface 4 2, .invokevirtual 41943, .return_] ls st h := rfl
theorem cr_205 {r : Nat}  : jx_cr (d + 1) 205 [.ref r] h = jx_eb d 205 0 [.ref r] [] h := rfl
theorem eb_206_0 : jx_eb d 206 0 ls st h = jx_ev d 206 [.aload 0, .invokeinterface 4 5, .iconst 40, .if_icmp .ge 36, .iload 1, .ifCond .ne 17, .iconst 1, .goto 18] ls st h := rfl
theorem eb_206_17 : jx_eb d 206 17 ls st h = jx_ev d 206 [.iconst 0, .goto_w 18] ls st h := rfl
theorem eb_206_18 : jx_eb d 206 18 ls st h = jx_ev d 206 [.aload 0, .invokeinterface 4 1, .invokeinterface 1 6, .ifCond .ne 32, .iconst 1, .goto 33] ls st h := rfl
theorem eb_206_32 : jx_eb d 206 32 ls st h = jx_ev d 206 [.iconst 0, .goto_w 33] ls st h := rfl
theorem eb_206_33 : jx_eb d 206 33 ls st h = jx_ev d 206 [.if_icmp .eq 38, .goto_w 36] ls st h := rfl
theorem eb_206_36 : jx_eb d 206 36 ls st h = jx_ev d 206 [.iconst 0, .freturn] ls st h := rfl
theorem eb_206_38 : jx_eb d 206 38 ls st h = jx_ev d 206 [.iload 1, .iconst 1, .if_icmp .ne 63, .aload 0, .invokeinterface 4 1, .invokeinterface 1 2, .iconst 6, .if_icmp .ge 59, .iconst 1, .goto 85] ls st h := rfl
theorem eb_206_59 : jx_eb d 206 59 ls st h = jx_ev d 206 [.iconst 0, .goto 85] ls st h := rfl
theorem eb_206_63 : jx_eb d 206 63 ls st h = jx_ev d 206 [.iload 1, .iconst 3, .if_icmp .ne 80, .aload 0, .invokeinterface 4 1, .invokeinterface 1 3, .iconst 6, .if_icmp .ge 84, .goto_w 80] ls st h := rfl
theorem eb_206_80 : jx_eb d 206 80 ls st h = jx_ev d 206 [.iconst 1, .goto 85] ls st h := rfl
theorem eb_206_84 : jx_eb d 206 84 ls st h = jx_ev d 206 [.iconst 0, .goto_w 85] ls st h := rfl
theorem eb_206_85 : jx_eb d 206 85 ls st h = jx_ev d 206 [.freturn] ls st h := rfl
theorem cr_206 {r : Nat} {a1 : Int32}  : jx_cr (d + 1) 206 [.ref r, .int a1] h = jx_eb d 206 0 [.ref r, .int a1] [] h := rfl
theorem eb_207_0 : jx_eb d 207 0 ls st h = jx_ev d 207 [.aload 0, .iconst 0, .aload 0, .invokeinterface 4 1, .invokeinterface 1 2, .iconst 1, .isub, .invokevirtual 42022, .ireturn] ls st h := rfl
theorem cr_207 {r : Nat}  : jx_cr (d + 1) 207 [.ref r] h = jx_eb d 207 0 [.ref r] [] h := rfl
theorem eb_208_0 : jx_eb d 208 0 ls st h = jx_ev d 208 [.aload 0, .invokeinterface 4 1, .aload 0, .iconst 1, .iconst 12, .invokevirtual 42022, .multianewarray 1 0, .aload 0, .invokeinterface 4 1, .aload 0, .iconst 1, .iconst 99, .invokevirtual 42022, .multianewarray 1 1, .aload 0, .invokeinterface 4 1, .iconst 1, .multianewarray 1 6, .iconst 0, .istore 1, .goto_w 38] ls st h := rfl
theorem eb_208_38 : jx_eb d 208 38 ls st h = jx_ev d 208 [.iload 1, .iconst 12, .if_icmp .ge 60, .aload 0, .invokeinterface 4 1, .invokeinterface 1 12, .iload 1, .iconst (-1), .iastore, .iinc 1 1, .goto 38] ls st h := rfl
theorem eb_208_60 : jx_eb d 208 60 ls st h = jx_ev d 208 [.return_] ls st h := rfl
theorem cr_208 {r : Nat}  : jx_cr (d + 1) 208 [.ref r] h = jx_eb d 208 0 [.ref r, jx_un] [] h := rfl
theorem eb_209_0 : jx_eb d 209 0 ls st h = jx_ev d 209 [.aload 0, .invokeinterface 4 1, .invokeinterface 1 3, .istore 1, .aload 0, .invokeinterface 4 1, .invokeinterface 1 14, .iload 1, .aload 0, .iconst 0, .iconst 99, .invokevirtual 42022, .iastore, .aload 0, .invokeinterface 4 1, .invokeinterface 1 15, .iload 1, .aload 0, .iconst 0, .iconst 9, .invokevirtual 42022, .iastore, .aload 0, .invokeinterface 4 1, .dup, .invokeinterface 1 3, .iconst 1, .iadd, .multianewarray 1 3, .return_] ls st h := rfl
theorem cr_209 {r : Nat}  : jx_cr (d + 1) 209 [.ref r] h = jx_eb d 209 0 [.ref r, jx_un] [] h := rfl
theorem eb_210_0 : jx_eb d 210 0 ls st h = jx_ev d 210 [.aload 0, .invokevirtual 42070, .istore 1, .aload 0, .invokevirtual 41950, .pop, .aload 0, .invokeinterface 4 2, .istore 2, .aload 0, .invokevirtual 42070, .istore 3, .aload 0, .iload 1, .iload 3, .if_icmp .eq 30, .iconst 1, .goto 31] ls st h := rfl
theorem eb_210_30 : jx_eb d 210 30 ls st h = jx_ev d 210 [.iconst 0, .goto_w 31] ls st h := rfl
theorem eb_210_31 : jx_eb d 210 31 ls st h = jx_ev d 210 [.iconst 1, .iload 2, .invokevirtual 41943, .aload 0, .invokeinterface 4 1, .invokeinterface 1 13, .iload 1, .dup2, .iaload, .iconst 1, .iload 3, .ishl, .ior, .iastore, .aload 0, .invokeinterface 4 1, .invokeinterface 1 13, .iload 3, .dup2, .iaload, .iconst 1, .iload 1, .ishl, .ior, .iastore, .return_] ls st h := rfl
theorem cr_210 {r : Nat}  : jx_cr (d + 1) 210 [.ref r] h = jx_eb d 210 0 [.ref r, jx_un, jx_un, jx_un] [] h := rfl
theorem eb_211_0 : jx_eb d 211 0 ls st h = jx_ev d 211 [.iload 1, .tableswitch 107 0 3 #[32, 37, 73, 102]] ls st h := rfl
theorem eb_211_32 : jx_eb d 211 32 ls st h = jx_ev d 211 [.aload 0, .invokevirtual 42080, .return_] ls st h := rfl
theorem eb_211_37 : jx_eb d 211 37 ls st h = jx_ev d 211 [.aload 0, .invokeinterface 4 1, .invokeinterface 1 11, .aload 0, .invokeinterface 4 1, .invokeinterface 1 2, .aload 0, .iconst 0, .iconst 20, .invokevirtual 42022, .iastore, .aload 0, .invokeinterface 4 1, .dup, .invokeinterface 1 2, .iconst 1, .iadd, .multianewarray 1 2, .return_] ls st h := rfl
theorem eb_211_73 : jx_eb d 211 73 ls st h = jx_ev d 211 [.aload 0, .iconst 0, .aload 0, .invokeinterface 4 1, .invokeinterface 1 0, .iconst 1, .isub, .invokevirtual 42022, .istore 2, .aload 0, .invokeinterface 4 1, .invokeinterface 1 12, .iload 2, .aload 0, .invokevirtual 42070, .iastore, .return_] ls st h := rfl
theorem eb_211_102 : jx_eb d 211 102 ls st h = jx_ev d 211 [.aload 0, .invokevirtual 42090, .return_] ls st h := rfl
theorem eb_211_107 : jx_eb d 211 107 ls st h = jx_ev d 211 [.aload 0, .invokevirtual 42100, .return_] ls st h := rfl
theorem cr_211 {r : Nat} {a1 : Int32}  : jx_cr (d + 1) 211 [.ref r, .int a1] h = jx_eb d 211 0 [.ref r, .int a1, jx_un] [] h := rfl
theorem eb_212_0 : jx_eb d 212 0 ls st h = jx_ev d 212 [.aload 0, .invokeinterface 4 1, .aload 0, .invokeinterface 4 6, .invokeinterface 0 4, .invokevirtual 11671, .pop, .goto_w 15] ls st h := rfl
theorem eb_212_15 : jx_eb d 212 15 ls st h = jx_ev d 212 [.aload 0, .invokevirtual 41950, .pop, .aload 0, .invokeinterface 4 2, .istore 1, .aload 0, .aload 0, .invokeinterface 4 6, .invokeinterface 0 10, .invokevirtual 42001, .istore 2, .aload 0, .iload 2, .iconst (-1), .if_icmp .eq 47, .iconst 1, .goto 48] ls st h := rfl
theorem eb_212_47 : jx_eb d 212 47 ls st h = jx_ev d 212 [.iconst 0, .goto_w 48] ls st h := rfl
theorem eb_212_48 : jx_eb d 212 48 ls st h = jx_ev d 212 [.iconst 0, .iload 1, .invokevirtual 41943, .aload 0, .aload 0, .iload 2, .invokevirtual 42061, .iconst 4, .iload 1, .invokevirtual 41943, .aload 0, .dup, .invokeinterface 4 5, .iconst 1, .iadd, .multianewarray 4 5, .aload 0, .dup, .invokeinterface 4 2, .aload 0, .invokeinterface 4 6, .invokeinterface 0 10, .iload 2, .aaload, .invokevirtual 192330, .iadd, .multianewarray 4 2, .aload 0, .iload 2, .invokevirtual 42111, .aload 0, .iconst 59, .invokevirtual 41961, .ifCond .ne 15, .aload 0, .invokevirtual 42050, .aload 0, .invokeinterface 4 1, .invokevirtual 11710, .aload 0, .invokeinterface 4 1, .areturn] ls st h := rfl
theorem cr_212 {r : Nat}  : jx_cr (d + 1) 212 [.ref r] h = jx_eb d 212 0 [.ref r, jx_un, jx_un] [] h := rfl
theorem eb_213_0 : jx_eb d 213 0 ls st h = jx_ev d 213 [.new 6, .dup, .invokespecial 1620, .astore 1, .aload 1, .aload 0, .invokevirtual 42190, .multianewarray 6 200, .aload 1, .aload 0, .ldc 18, .invokevirtual 41991, .ifCond .eq 33, .aload 0, .invokevirtual 42150, .goto 34] ls st h := rfl
theorem eb_213_33 : jx_eb d 213 33 ls st h = jx_ev d 213 [.aconst_null, .goto_w 34] ls st h := rfl
theorem eb_213_34 : jx_eb d 213 34 ls st h = jx_ev d 213 [.multianewarray 6 201, .aload 1, .areturn] ls st h := rfl
theorem cr_213 {r : Nat}  : jx_cr (d + 1) 213 [.ref r] h = jx_eb d 213 0 [.ref r, jx_un] [] h := rfl
theorem eb_214_0 : jx_eb d 214 0 ls st h = jx_ev d 214 [.new 5, .dup, .invokespecial 1900, .astore 1, .goto_w 8] ls st h := rfl
theorem eb_214_8 : jx_eb d 214 8 ls st h = jx_ev d 214 [.aload 0, .invokevirtual 41950, .pop, .aload 0, .invokeinterface 4 2, .istore 2, .aload 0, .aload 0, .aload 0, .invokeinterface 4 6, .invokeinterface 0 11, .invokevirtual 42001, .ifCond .ne 37, .iconst 1, .goto 38] ls st h := rfl
theorem eb_214_37 : jx_eb d 214 37 ls st h = jx_ev d 214 [.iconst 0, .goto_w 38] ls st h := rfl
theorem eb_214_38 : jx_eb d 214 38 ls st h = jx_ev d 214 [.iconst 0, .iload 2, .invokevirtual 41943, .aload 0, .aload 0, .invokeinterface 4 5, .iconst 12, .if_icmp .ge 57, .iconst 1, .goto 58] ls st h := rfl
theorem eb_214_57 : jx_eb d 214 57 ls st h = jx_ev d 214 [.iconst 0, .goto_w 58] ls st h := rfl
theorem eb_214_58 : jx_eb d 214 58 ls st h = jx_ev d 214 [.iconst 4, .iload 2, .invokevirtual 41943, .aload 0, .dup, .invokeinterface 4 5, .iconst 1, .iadd, .multianewarray 4 5, .aload 0, .dup, .invokeinterface 4 2, .iconst 4, .iadd, .multianewarray 4 2, .aload 1, .invokeinterface 5 0, .aload 1, .invokeinterface 5 1, .aload 0, .invokevirtual 42130, .aastore, .aload 1, .dup, .invokeinterface 5 1, .iconst 1, .iadd, .multianewarray 5 1, .aload 0, .iconst 59, .invokevirtual 41961, .ifCond .ne 8, .aload 0, .invokevirtual 42050, .aload 1, .areturn] ls st h := rfl
theorem cr_214 {r : Nat}  : jx_cr (d + 1) 214 [.ref r] h = jx_eb d 214 0 [.ref r, jx_un, jx_un] [] h := rfl
theorem eb_215_0 : jx_eb d 215 0 ls st h = jx_ev d 215 [.aload 0, .invokevirtual 42160, .astore 1, .goto_w 5] ls st h := rfl
theorem eb_215_5 : jx_eb d 215 5 ls st h = jx_ev d 215 [.aload 0, .ldc 21, .invokevirtual 41991, .ifCond .eq 31, .new 14, .dup, .aload 1, .iconst 0, .aload 0, .invokevirtual 42160, .invokespecial 1603, .astore 1, .goto 5] ls st h := rfl
theorem eb_215_31 : jx_eb d 215 31 ls st h = jx_ev d 215 [.aload 1, .areturn] ls st h := rfl
theorem cr_215 {r : Nat}  : jx_cr (d + 1) 215 [.ref r] h = jx_eb d 215 0 [.ref r, jx_un] [] h := rfl
theorem eb_216_0 : jx_eb d 216 0 ls st h = jx_ev d 216 [.aload 0, .invokevirtual 42170, .astore 1, .goto_w 5] ls st h := rfl
theorem eb_216_5 : jx_eb d 216 5 ls st h = jx_ev d 216 [.aload 0, .ldc 20, .invokevirtual 41991, .ifCond .eq 31, .new 14, .dup, .aload 1, .iconst 1, .aload 0, .invokevirtual 42170, .invokespecial 1603, .astore 1, .goto 5] ls st h := rfl
theorem eb_216_31 : jx_eb d 216 31 ls st h = jx_ev d 216 [.aload 1, .areturn] ls st h := rfl
theorem cr_216 {r : Nat}  : jx_cr (d + 1) 216 [.ref r] h = jx_eb d 216 0 [.ref r, jx_un] [] h := rfl
theorem eb_217_0 : jx_eb d 217 0 ls st h = jx_ev d 217 [.aload 0, .invokevirtual 41950, .istore 1, .aload 0, .invokeinterface 4 2, .istore 2, .aload 0, .ldc 19, .invokevirtual 41981, .ifCond .eq 58, .aload 0, .iload 2, .invokevirtual 42041, .aload 0, .dup, .invokeinterface 4 2, .iconst 3, .iadd, .multianewarray 4 2, .new 12, .dup, .aload 0, .invokevirtual 42170, .invokespecial 1841, .astore 3, .aload 0, .dup, .invokeinterface 4 3, .iconst 1, .isub, .multianewarray 4 3, .aload 3, .areturn] ls st h := rfl
theorem eb_217_58 : jx_eb d 217 58 ls st h = jx_ev d 217 [.iload 1, .iconst 91, .if_icmp .ne 111, .aload 0, .iload 2, .invokevirtual 42041, .aload 0, .dup, .invokeinterface 4 2, .iconst 1, .iadd, .multianewarray 4 2, .aload 0, .invokevirtual 42150, .astore 3, .aload 0, .aload 0, .iconst 93, .invokevirtual 41961, .iconst 0, .aload 0, .invokeinterface 4 2, .invokevirtual 41943, .aload 0, .dup, .invokeinterface 4 3, .iconst 1, .isub, .multianewarray 4 3, .aload 3, .areturn] ls st h := rfl
theorem eb_217_111 : jx_eb d 217 111 ls st h = jx_ev d 217 [.aload 0, .invokevirtual 42190, .astore 3, .aload 0, .invokevirtual 41950, .pop, .aload 0, .invokeinterface 4 2, .istore 4, .aload 0, .invokevirtual 42180, .istore 5, .aload 0, .iload 4, .invokevirtual 42031, .new 13, .dup, .aload 3, .iload 5, .aload 0, .invokevirtual 42190, .invokespecial 1643, .areturn] ls st h := rfl
theorem cr_217 {r : Nat}  : jx_cr (d + 1) 217 [.ref r] h = jx_eb d 217 0 [.ref r, jx_un, jx_un, jx_un, jx_un, jx_un] [] h := rfl
theorem eb_218_0 : jx_eb d 218 0 ls st h = jx_ev d 218 [.aload 0, .invokevirtual 41950, .istore 1, .aload 0, .iload 1, .iconst 60, .if_icmp .eq 24, .iload 1, .iconst 61, .if_icmp .eq 24, .iload 1, .iconst 62, .if_icmp .ne 28, .goto_w 24] ls st h := rfl
theorem eb_218_24 : jx_eb d 218 24 ls st h = jx_ev d 218 [.iconst 1, .goto 29] ls st h := rfl
theorem eb_218_28 : jx_eb d 218 28 ls st h = jx_ev d 218 [.iconst 0, .goto_w 29] ls st h := rfl
theorem eb_218_29 : jx_eb d 218 29 ls st h = jx_ev d 218 [.iconst 0, .aload 0, .invokeinterface 4 2, .invokevirtual 41943, .aload 0, .dup, .invokeinterface 4 2, .iconst 1, .iadd, .multianewarray 4 2, .iload 1, .iconst 61, .if_icmp .ne 55, .iconst 2, .ireturn] ls st h := rfl
theorem eb_218_55 : jx_eb d 218 55 ls st h = jx_ev d 218 [.aload 0, .invokeinterface 4 2, .aload 0, .invokeinterface 4 6, .invokeinterface 0 9, .if_icmp .ge 90, .aload 0, .invokeinterface 4 6, .invokeinterface 0 8, .aload 0, .invokeinterface 4 2, .baload, .iconst 61, .if_icmp .ne 90, .iconst 1, .goto 91] ls st h := rfl
theorem eb_218_90 : jx_eb d 218 90 ls st h = jx_ev d 218 [.iconst 0, .goto_w 91] ls st h := rfl
theorem eb_218_91 : jx_eb d 218 91 ls st h = jx_ev d 218 [.istore 2, .iload 2, .ifCond .eq 106, .aload 0, .dup, .invokeinterface 4 2, .iconst 1, .iadd, .multianewarray 4 2, .goto_w 106] ls st h := rfl
theorem eb_218_106 : jx_eb d 218 106 ls st h = jx_ev d 218 [.iload 1, .iconst 60, .if_icmp .ne 124, .iload 2, .ifCond .eq 120, .iconst 1, .goto 133] ls st h := rfl
theorem eb_218_120 : jx_eb d 218 120 ls st h = jx_ev d 218 [.iconst 0, .goto 133] ls st h := rfl
theorem eb_218_124 : jx_eb d 218 124 ls st h = jx_ev d 218 [.iload 2, .ifCond .eq 132, .iconst 3, .goto 133] ls st h := rfl
theorem eb_218_132 : jx_eb d 218 132 ls st h = jx_ev d 218 [.iconst 4, .goto_w 133] ls st h := rfl
theorem eb_218_133 : jx_eb d 218 133 ls st h = jx_ev d 218 [.ireturn] ls st h := rfl
theorem cr_218 {r : Nat}  : jx_cr (d + 1) 218 [.ref r] h = jx_eb d 218 0 [.ref r, jx_un, jx_un] [] h := rfl
theorem eb_219_0 : jx_eb d 219 0 ls st h = jx_ev d 219 [.aload 0, .invokevirtual 42200, .astore 1, .goto_w 5] ls st h := rfl
theorem eb_219_5 : jx_eb d 219 5 ls st h = jx_ev d 219 [.aload 0, .invokevirtual 41950, .iconst 43, .if_icmp .eq 23, .aload 0, .invokevirtual 41950, .iconst 45, .if_icmp .ne 63, .goto_w 23] ls st h := rfl
theorem eb_219_23 : jx_eb d 219 23 ls st h = jx_ev d 219 [.aload 0, .invokeinterface 4 6, .invokeinterface 0 8, .aload 0, .invokeinterface 4 2, .baload, .istore 2, .aload 0, .dup, .invokeinterface 4 2, .iconst 1, .iadd, .multianewarray 4 2, .new 10, .dup, .aload 1, .iload 2, .aload 0, .invokevirtual 42200, .invokespecial 1883, .astore 1, .goto 5] ls st h := rfl
theorem eb_219_63 : jx_eb d 219 63 ls st h = jx_ev d 219 [.aload 1, .areturn] ls st h := rfl
theorem cr_219 {r : Nat}  : jx_cr (d + 1) 219 [.ref r] h = jx_eb d 219 0 [.ref r, jx_un, jx_un] [] h := rfl
theorem eb_220_0 : jx_eb d 220 0 ls st h = jx_ev d 220 [.aload 0, .invokevirtual 42210, .astore 1, .goto_w 5] ls st h := rfl
theorem eb_220_5 : jx_eb d 220 5 ls st h = jx_ev d 220 [.aload 0, .invokevirtual 41950, .iconst 42, .if_icmp .eq 32, .aload 0, .invokevirtual 41950, .iconst 47, .if_icmp .eq 32, .aload 0, .invokevirtual 41950, .iconst 37, .if_icmp .ne 72, .goto_w 32] ls st h := rfl
theorem eb_220_32 : jx_eb d 220 32 ls st h = jx_ev d 220 [.aload 0, .invokeinterface 4 6, .invokeinterface 0 8, .aload 0, .invokeinterface 4 2, .baload, .istore 2, .aload 0, .dup, .invokeinterface 4 2, .iconst 1, .iadd, .multianewarray 4 2, .new 10, .dup, .aload 1, .iload 2, .aload 0, .invokevirtual 42210, .invokespecial 1883, .astore 1, .goto 5] ls st h := rfl
theorem eb_220_72 : jx_eb d 220 72 ls st h = jx_ev d 220 [.aload 1, .areturn] ls st h := rfl
theorem cr_220 {r : Nat}  : jx_cr (d + 1) 220 [.ref r] h = jx_eb d 220 0 [.ref r, jx_un, jx_un] [] h := rfl
theorem eb_221_0 : jx_eb d 221 0 ls st h = jx_ev d 221 [.aload 0, .invokevirtual 41950, .pop, .aload 0, .invokeinterface 4 2, .istore 1, .aload 0, .iload 1, .invokevirtual 42011, .ifCond .eq 41, .aload 0, .iconst 0, .iconst 99999, .invokevirtual 42022, .istore 2, .aload 0, .iload 1, .invokevirtual 42031, .new 8, .dup, .iload 2, .i2l, .invokespecial 1861, .areturn] ls st h := rfl
theorem eb_221_41 : jx_eb d 221 41 ls st h = jx_ev d 221 [.aload 0, .aload 0, .invokeinterface 4 0, .invokevirtual 42001, .istore 2, .aload 0, .iload 2, .iconst (-1), .if_icmp .eq 60, .iconst 1, .goto 61] ls st h := rfl
theorem eb_221_60 : jx_eb d 221 60 ls st h = jx_ev d 221 [.iconst 0, .goto_w 61] ls st h := rfl
theorem eb_221_61 : jx_eb d 221 61 ls st h = jx_ev d 221 [.iconst 0, .iload 1, .invokevirtual 41943, .aload 0, .iload 1, .invokevirtual 42031, .aload 0, .dup, .invokeinterface 4 2, .aload 0, .invokeinterface 4 0, .iload 2, .aaload, .invokevirtual 192330, .iadd, .multianewarray 4 2, .new 9, .dup, .iload 2, .invokespecial 2231, .areturn] ls st h := rfl
theorem cr_221 {r : Nat}  : jx_cr (d + 1) 221 [.ref r] h = jx_eb d 221 0 [.ref r, jx_un, jx_un] [] h := rfl
theorem eb_222_0 : jx_eb d 222 0 ls st h = jx_ev d 222 [.aload 0, .monitorenter, .return_] ls st h := rfl
theorem cr_222 {r : Nat}  : jx_cr (d + 1) 222 [.ref r] h = jx_eb d 222 0 [.ref r] [] h := rfl
theorem eb_223_0 : jx_eb d 223 0 ls st h = jx_ev d 223 [.aload 0, .invokespecial 2220, .aload 0, .iload 1, .multianewarray 9 0, .return_] ls st h := rfl
theorem cr_223 {r : Nat} {a1 : Int32}  : jx_cr (d + 1) 223 [.ref r, .int a1] h = jx_eb d 223 0 [.ref r, .int a1] [] h := rfl
theorem eb_224_0 : jx_eb d 224 0 ls st h = jx_ev d 224 [.aload 1, .aload 0, .invokeinterface 9 0, .laload, .lreturn] ls st h := rfl
theorem cr_224 {r : Nat} {a1 : Value} (e1 : jx_ns a1 = true) : jx_cr (d + 1) 224 [.ref r, a1] h = jx_eb d 224 0 [.ref r, a1] [] h := by
  have q : jx_PP.2.1 224 [.ref r, a1] = some [.ref r, a1] := by
    show jx_le [false, false] 2 [.ref r, a1] = _
    simp only [jx_le, jx_la_f jx_ns_r, jx_la_f e1, jx_la_n, Option.map_some]
    rfl
  simp only [jx_cr, q]
theorem eb_225_0 : jx_eb d 225 0 ls st h = jx_ev d 225 [.new 0, .dup, .invokespecial 30, .astore 1, .new 3, .dup, .invokespecial 560, .astore 2, .iconst 0, .istore 3, .goto_w 18] ls st h := rfl
theorem eb_225_18 : jx_eb d 225 18 ls st h = jx_ev d 225 [.iload 3, .aload 0, .arraylength, .iconst 6, .isub, .if_icmp .gt 1202, .aload 0, .iload 3, .iaload, .iconst 63, .iand, .tableswitch 1196 0 33 #[184, 247, 270, 283, 296, 319, 352, 375, 408, 421, 454, 487, 510, 533, 566, 579, 622, 655, 698, 741, 784, 817, 840, 863, 896, 949, 972, 1005, 1028, 1051, 1074, 1127, 1150, 1173]] ls st h := rfl
theorem eb_225_184 : jx_eb d 225 184 ls st h = jx_ev d 225 [.aload 1, .aload 0, .iload 3, .iconst 1, .iadd, .iaload, .aload 0, .iload 3, .iconst 2, .iadd, .iaload, .aload 0, .iload 3, .iconst 3, .iadd, .iaload, .aload 0, .iload 3, .iconst 4, .iadd, .iaload, .aload 0, .iload 3, .iconst 5, .iadd, .iaload, .invokevirtual 45, .aload 2, .aload 0, .iload 3, .iconst 1, .iadd, .iaload, .aload 0, .iload 3, .iconst 2, .iadd, .iaload, .aload 0, .iload 3, .iconst 3, .iadd, .iaload, .aload 0, .iload 3, .iconst 4, .iadd, .iaload, .aload 0, .iload 3, .iconst 5, .iadd, .iaload, .invokevirtual 30635, .if_icmp .eq 1196, .iconst 0, .freturn] ls st h := rfl
theorem eb_225_247 : jx_eb d 225 247 ls st h = jx_ev d 225 [.aload 1, .aload 0, .iload 3, .iconst 1, .iadd, .iaload, .invokevirtual 61, .aload 2, .aload 0, .iload 3, .iconst 1, .iadd, .iaload, .invokevirtual 30651, .if_icmp .eq 1196, .iconst 0, .freturn] ls st h := rfl
theorem eb_225_270 : jx_eb d 225 270 ls st h = jx_ev d 225 [.aload 1, .invokevirtual 80, .aload 2, .invokevirtual 30960, .if_icmp .eq 1196, .iconst 0, .freturn] ls st h := rfl
theorem eb_225_283 : jx_eb d 225 283 ls st h = jx_ev d 225 [.aload 1, .invokevirtual 90, .aload 2, .invokevirtual 30980, .if_icmp .eq 1196, .iconst 0, .freturn] ls st h := rfl
theorem eb_225_296 : jx_eb d 225 296 ls st h = jx_ev d 225 [.aload 1, .aload 0, .iload 3, .iconst 1, .iadd, .iaload, .invokevirtual 101, .aload 2, .aload 0, .iload 3, .iconst 1, .iadd, .iaload, .invokevirtual 30991, .if_icmp .eq 1196, .iconst 0, .freturn] ls st h := rfl
theorem eb_225_319 : jx_eb d 225 319 ls st h = jx_ev d 225 [.aload 1, .aload 0, .iload 3, .iconst 1, .iadd, .iaload, .aload 0, .iload 3, .iconst 2, .iadd, .iaload, .invokevirtual 142, .aload 2, .aload 0, .iload 3, .iconst 1, .iadd, .iaload, .aload 0, .iload 3, .iconst 2, .iadd, .iaload, .invokevirtual 31052, .if_icmp .eq 1196, .iconst 0, .freturn] ls st h := rfl
theorem eb_225_352 : jx_eb d 225 352 ls st h = jx_ev d 225 [.aload 1, .aload 0, .iload 3, .iconst 1, .iadd, .iaload, .invokevirtual 151, .aload 2, .aload 0, .iload 3, .iconst 1, .iadd, .iaload, .invokevirtual 31061, .if_icmp .eq 1196, .iconst 0, .freturn] ls st h := rfl
theorem eb_225_375 : jx_eb d 225 375 ls st h = jx_ev d 225 [.aload 1, .aload 0, .iload 3, .iconst 1, .iadd, .iaload, .aload 0, .iload 3, .iconst 2, .iadd, .iaload, .invokevirtual 162, .aload 2, .aload 0, .iload 3, .iconst 1, .iadd, .iaload, .aload 0, .iload 3, .iconst 2, .iadd, .iaload, .invokevirtual 31082, .if_icmp .eq 1196, .iconst 0, .freturn] ls st h := rfl
theorem eb_225_408 : jx_eb d 225 408 ls st h = jx_ev d 225 [.aload 1, .invokevirtual 190, .aload 2, .invokevirtual 31200, .if_icmp .eq 1196, .iconst 0, .freturn] ls st h := rfl
theorem eb_225_421 : jx_eb d 225 421 ls st h = jx_ev d 225 [.aload 1, .aload 0, .iload 3, .iconst 1, .iadd, .iaload, .aload 0, .iload 3, .iconst 2, .iadd, .iaload, .invokevirtual 202, .aload 2, .aload 0, .iload 3, .iconst 1, .iadd, .iaload, .aload 0, .iload 3, .iconst 2, .iadd, .iaload, .invokevirtual 31212, .if_icmp .eq 1196, .iconst 0, .freturn] ls st h := rfl
theorem eb_225_454 : jx_eb d 225 454 ls st h = jx_ev d 225 [.aload 1, .aload 0, .iload 3, .iconst 1, .iadd, .iaload, .aload 0, .iload 3, .iconst 2, .iadd, .iaload, .invokevirtual 212, .aload 2, .aload 0, .iload 3, .iconst 1, .iadd, .iaload, .aload 0, .iload 3, .iconst 2, .iadd, .iaload, .invokevirtual 31222, .if_icmp .eq 1196, .iconst 0, .freturn] ls st h := rfl
theorem eb_225_487 : jx_eb d 225 487 ls st h = jx_ev d 225 [.aload 1, .aload 0, .iload 3, .iconst 1, .iadd, .iaload, .invokevirtual 221, .aload 2, .aload 0, .iload 3, .iconst 1, .iadd, .iaload, .invokevirtual 31231, .if_icmp .eq 1196, .iconst 0, .freturn] ls st h := rfl
theorem eb_225_510 : jx_eb d 225 510 ls st h = jx_ev d 225 [.aload 1, .aload 0, .iload 3, .iconst 1, .iadd, .iaload, .invokevirtual 231, .aload 2, .aload 0, .iload 3, .iconst 1, .iadd, .iaload, .invokevirtual 31241, .if_icmp .eq 1196, .iconst 0, .freturn] ls st h := rfl
theorem eb_225_533 : jx_eb d 225 533 ls st h = jx_ev d 225 [.aload 1, .aload 0, .iload 3, .iconst 1, .iadd, .iaload, .aload 0, .iload 3, .iconst 2, .iadd, .iaload, .invokevirtual 242, .aload 2, .aload 0, .iload 3, .iconst 1, .iadd, .iaload, .aload 0, .iload 3, .iconst 2, .iadd, .iaload, .invokevirtual 31252, .if_icmp .eq 1196, .iconst 0, .freturn] ls st h := rfl
theorem eb_225_566 : jx_eb d 225 566 ls st h = jx_ev d 225 [.aload 1, .invokevirtual 180, .aload 2, .invokevirtual 31190, .if_icmp .eq 1196, .iconst 0, .freturn] ls st h := rfl
theorem eb_225_579 : jx_eb d 225 579 ls st h = jx_ev d 225 [.aload 1, .aload 0, .iload 3, .iconst 1, .iadd, .iaload, .aload 0, .iload 3, .iconst 2, .iadd, .iaload, .aload 0, .iload 3, .iconst 3, .iadd, .iaload, .invokevirtual 253, .aload 2, .aload 0, .iload 3, .iconst 1, .iadd, .iaload, .aload 0, .iload 3, .iconst 2, .iadd, .iaload, .aload 0, .iload 3, .iconst 3, .iadd, .iaload, .invokevirtual 31283, .if_icmp .eq 1196, .iconst 0, .freturn] ls st h := rfl
theorem eb_225_622 : jx_eb d 225 622 ls st h = jx_ev d 225 [.aload 1, .aload 0, .iload 3, .iconst 1, .iadd, .iaload, .aload 0, .iload 3, .iconst 2, .iadd, .iaload, .invokevirtual 262, .aload 2, .aload 0, .iload 3, .iconst 1, .iadd, .iaload, .aload 0, .iload 3, .iconst 2, .iadd, .iaload, .invokevirtual 31292, .if_icmp .eq 1196, .iconst 0, .freturn] ls st h := rfl
theorem eb_225_655 : jx_eb d 225 655 ls st h = jx_ev d 225 [.aload 1, .aload 0, .iload 3, .iconst 1, .iadd, .iaload, .aload 0, .iload 3, .iconst 2, .iadd, .iaload, .aload 0, .iload 3, .iconst 3, .iadd, .iaload, .invokevirtual 273, .aload 2, .aload 0, .iload 3, .iconst 1, .iadd, .iaload, .aload 0, .iload 3, .iconst 2, .iadd, .iaload, .aload 0, .iload 3, .iconst 3, .iadd, .iaload, .invokevirtual 31303, .if_icmp .eq 1196, .iconst 0, .freturn] ls st h := rfl
theorem eb_225_698 : jx_eb d 225 698 ls st h = jx_ev d 225 [.aload 1, .aload 0, .iload 3, .iconst 1, .iadd, .iaload, .aload 0, .iload 3, .iconst 2, .iadd, .iaload, .aload 0, .iload 3, .iconst 3, .iadd, .iaload, .invokevirtual 293, .aload 2, .aload 0, .iload 3, .iconst 1, .iadd, .iaload, .aload 0, .iload 3, .iconst 2, .iadd, .iaload, .aload 0, .iload 3, .iconst 3, .iadd, .iaload, .invokevirtual 31323, .if_icmp .eq 1196, .iconst 0, .freturn] ls st h := rfl
theorem eb_225_741 : jx_eb d 225 741 ls st h = jx_ev d 225 [.aload 1, .aload 0, .iload 3, .iconst 1, .iadd, .iaload, .aload 0, .iload 3, .iconst 2, .iadd, .iaload, .aload 0, .iload 3, .iconst 3, .iadd, .iaload, .invokevirtual 313, .aload 2, .aload 0, .iload 3, .iconst 1, .iadd, .iaload, .aload 0, .iload 3, .iconst 2, .iadd, .iaload, .aload 0, .iload 3, .iconst 3, .iadd, .iaload, .invokevirtual 31333, .if_icmp .eq 1196, .iconst 0, .freturn] ls st h := rfl
theorem eb_225_784 : jx_eb d 225 784 ls st h = jx_ev d 225 [.aload 1, .aload 0, .iload 3, .iconst 1, .iadd, .iaload, .aload 0, .iload 3, .iconst 2, .iadd, .iaload, .invokevirtual 322, .aload 2, .aload 0, .iload 3, .iconst 1, .iadd, .iaload, .aload 0, .iload 3, .iconst 2, .iadd, .iaload, .invokevirtual 31342, .if_icmp .eq 1196, .iconst 0, .freturn] ls st h := rfl
theorem eb_225_817 : jx_eb d 225 817 ls st h = jx_ev d 225 [.aload 1, .aload 0, .iload 3, .iconst 1, .iadd, .iaload, .invokevirtual 331, .aload 2, .aload 0, .iload 3, .iconst 1, .iadd, .iaload, .invokevirtual 31351, .if_icmp .eq 1196, .iconst 0, .freturn] ls st h := rfl
theorem eb_225_840 : jx_eb d 225 840 ls st h = jx_ev d 225 [.aload 1, .aload 0, .iload 3, .iconst 1, .iadd, .iaload, .invokevirtual 361, .aload 2, .aload 0, .iload 3, .iconst 1, .iadd, .iaload, .invokevirtual 31381, .if_icmp .eq 1196, .iconst 0, .freturn] ls st h := rfl
theorem eb_225_863 : jx_eb d 225 863 ls st h = jx_ev d 225 [.aload 1, .aload 0, .iload 3, .iconst 1, .iadd, .iaload, .aload 0, .iload 3, .iconst 2, .iadd, .iaload, .invokevirtual 372, .aload 2, .aload 0, .iload 3, .iconst 1, .iadd, .iaload, .aload 0, .iload 3, .iconst 2, .iadd, .iaload, .invokevirtual 31392, .if_icmp .eq 1196, .iconst 0, .freturn] ls st h := rfl
theorem eb_225_896 : jx_eb d 225 896 ls st h = jx_ev d 225 [.aload 1, .aload 0, .iload 3, .iconst 1, .iadd, .iaload, .aload 0, .iload 3, .iconst 2, .iadd, .iaload, .aload 0, .iload 3, .iconst 3, .iadd, .iaload, .aload 0, .iload 3, .iconst 4, .iadd, .iaload, .invokevirtual 394, .aload 2, .aload 0, .iload 3, .iconst 1, .iadd, .iaload, .aload 0, .iload 3, .iconst 2, .iadd, .iaload, .aload 0, .iload 3, .iconst 3, .iadd, .iaload, .aload 0, .iload 3, .iconst 4, .iadd, .iaload, .invokevirtual 31424, .if_icmp .eq 1196, .iconst 0, .freturn] ls st h := rfl
theorem eb_225_949 : jx_eb d 225 949 ls st h = jx_ev d 225 [.aload 1, .aload 0, .iload 3, .iconst 1, .iadd, .iaload, .invokevirtual 411, .aload 2, .aload 0, .iload 3, .iconst 1, .iadd, .iaload, .invokevirtual 31451, .if_icmp .eq 1196, .iconst 0, .freturn] ls st h := rfl
theorem eb_225_972 : jx_eb d 225 972 ls st h = jx_ev d 225 [.aload 1, .aload 0, .iload 3, .iconst 1, .iadd, .iaload, .aload 0, .iload 3, .iconst 2, .iadd, .iaload, .invokevirtual 422, .aload 2, .aload 0, .iload 3, .iconst 1, .iadd, .iaload, .aload 0, .iload 3, .iconst 2, .iadd, .iaload, .invokevirtual 31462, .if_icmp .eq 1196, .iconst 0, .freturn] ls st h := rfl
theorem eb_225_1005 : jx_eb d 225 1005 ls st h = jx_ev d 225 [.aload 1, .aload 0, .iload 3, .iconst 1, .iadd, .iaload, .invokevirtual 461, .aload 2, .aload 0, .iload 3, .iconst 1, .iadd, .iaload, .invokevirtual 31481, .if_icmp .eq 1196, .iconst 0, .freturn] ls st h := rfl
theorem eb_225_1028 : jx_eb d 225 1028 ls st h = jx_ev d 225 [.aload 1, .aload 0, .iload 3, .iconst 1, .iadd, .iaload, .invokevirtual 481, .aload 2, .aload 0, .iload 3, .iconst 1, .iadd, .iaload, .invokevirtual 31501, .if_icmp .eq 1196, .iconst 0, .freturn] ls st h := rfl
theorem eb_225_1051 : jx_eb d 225 1051 ls st h = jx_ev d 225 [.aload 1, .aload 0, .iload 3, .iconst 1, .iadd, .iaload, .invokevirtual 491, .aload 2, .aload 0, .iload 3, .iconst 1, .iadd, .iaload, .invokevirtual 31511, .if_icmp .eq 1196, .iconst 0, .freturn] ls st h := rfl
theorem eb_225_1074 : jx_eb d 225 1074 ls st h = jx_ev d 225 [.aload 1, .aload 0, .iload 3, .iconst 1, .iadd, .iaload, .aload 0, .iload 3, .iconst 2, .iadd, .iaload, .aload 0, .iload 3, .iconst 3, .iadd, .iaload, .aload 0, .iload 3, .iconst 4, .iadd, .iaload, .invokevirtual 524, .aload 2, .aload 0, .iload 3, .iconst 1, .iadd, .iaload, .aload 0, .iload 3, .iconst 2, .iadd, .iaload, .aload 0, .iload 3, .iconst 3, .iadd, .iaload, .aload 0, .iload 3, .iconst 4, .iadd, .iaload, .invokevirtual 31544, .if_icmp .eq 1196, .iconst 0, .freturn] ls st h := rfl
theorem eb_225_1127 : jx_eb d 225 1127 ls st h = jx_ev d 225 [.aload 1, .aload 0, .iload 3, .iconst 1, .iadd, .iaload, .invokevirtual 531, .aload 2, .aload 0, .iload 3, .iconst 1, .iadd, .iaload, .invokevirtual 31551, .if_icmp .eq 1196, .iconst 0, .freturn] ls st h := rfl
theorem eb_225_1150 : jx_eb d 225 1150 ls st h = jx_ev d 225 [.aload 1, .aload 0, .iload 3, .iconst 1, .iadd, .iaload, .invokevirtual 541, .aload 2, .aload 0, .iload 3, .iconst 1, .iadd, .iaload, .invokevirtual 31581, .if_icmp .eq 1196, .iconst 0, .freturn] ls st h := rfl
theorem eb_225_1173 : jx_eb d 225 1173 ls st h = jx_ev d 225 [.aload 1, .aload 0, .iload 3, .iconst 1, .iadd, .iaload, .invokevirtual 551, .aload 2, .aload 0, .iload 3, .iconst 1, .iadd, .iaload, .invokevirtual 31591, .if_icmp .eq 1196, .iconst 0, .freturn] ls st h := rfl
theorem eb_225_1196 : jx_eb d 225 1196 ls st h = jx_ev d 225 [.iinc 3 6, .goto 18] ls st h := rfl
theorem eb_225_1202 : jx_eb d 225 1202 ls st h = jx_ev d 225 [.iconst 1, .freturn] ls st h := rfl
theorem cr_225 {a1 : Value} (e1 : jx_ns a1 = true) : jx_cr (d + 1) 225 [a1] h = jx_eb d 225 0 [a1, jx_un, jx_un, jx_un] [] h := by
  have q : jx_PP.2.1 225 [a1] = some [a1, jx_un, jx_un, jx_un] := by
    show jx_le [false] 4 [a1] = _
    simp only [jx_le, jx_la_f e1, jx_la_n, Option.map_some]
    rfl
  simp only [jx_cr, q]
theorem eb_226_0 : jx_eb d 226 0 ls st h = jx_ev d 226 [.aload 0, .aload 1, .aload 2, .iload 3, .iload 4, .invokespecial 2354, .return_] ls st h := rfl
theorem cr_226 {r : Nat} {a1 : Value} {a2 : Value} {a3 : Int32} {a4 : Int32} (e1 : jx_ns a1 = true) (e2 : jx_ns a2 = true) : jx_cr (d + 1) 226 [.ref r, a1, a2, .int a3, .int a4] h = jx_eb d 226 0 [.ref r, a1, a2, .int a3, .int a4] [] h := by
  have q : jx_PP.2.1 226 [.ref r, a1, a2, .int a3, .int a4] = some [.ref r, a1, a2, .int a3, .int a4] := by
    show jx_le [false, false, false, false, false] 5 [.ref r, a1, a2, .int a3, .int a4] = _
    simp only [jx_le, jx_la_f jx_ns_r, jx_la_f e1, jx_la_f e2, jx_la_f jx_ns_i, jx_la_f jx_ns_i, jx_la_n, Option.map_some]
    rfl
  simp only [jx_cr, q]
theorem eb_227_0 : jx_eb d 227 0 ls st h = jx_ev d 227 [.iload 0, .iload 0, .iconst 1, .iushr, .iconst 1431655765, .iand, .isub, .istore 0, .iload 0, .iconst 858993459, .iand, .iload 0, .iconst 2, .iushr, .iconst 858993459, .iand, .iadd, .istore 0, .iload 0, .iload 0, .iconst 4, .iushr, .iadd, .iconst 252645135, .iand, .istore 0, .iload 0, .iload 0, .iconst 8, .iushr, .iadd, .istore 0, .iload 0, .iload 0, .iconst 16, .iushr, .iadd, .istore 0, .iload 0, .iconst 63, .iand, .ireturn] ls st h := rfl
theorem cr_227 {a1 : Int32}  : jx_cr (d + 1) 227 [.int a1] h = jx_eb d 227 0 [.int a1] [] h := rfl
theorem eb_228_0 : jx_eb d 228 0 ls st h = jx_ev d 228 [.aload 0, .aload 1, .aload 2, .iload 3, .iload 4, .invokespecial 2264, .return_] ls st h := rfl
theorem cr_228 {r : Nat} {a1 : Value} {a2 : Value} {a3 : Int32} {a4 : Int32} (e1 : jx_ns a1 = true) (e2 : jx_ns a2 = true) : jx_cr (d + 1) 228 [.ref r, a1, a2, .int a3, .int a4] h = jx_eb d 228 0 [.ref r, a1, a2, .int a3, .int a4] [] h := by
  have q : jx_PP.2.1 228 [.ref r, a1, a2, .int a3, .int a4] = some [.ref r, a1, a2, .int a3, .int a4] := by
    show jx_le [false, false, false, false, false] 5 [.ref r, a1, a2, .int a3, .int a4] = _
    simp only [jx_le, jx_la_f jx_ns_r, jx_la_f e1, jx_la_f e2, jx_la_f jx_ns_i, jx_la_f jx_ns_i, jx_la_n, Option.map_some]
    rfl
  simp only [jx_cr, q]
theorem eb_229_0 : jx_eb d 229 0 ls st h = jx_ev d 229 [.aload 0, .invokevirtual 192320, .ifCond .eq 16, .aload 0, .invokeinterface 19 0, .iload 1, .invokestatic 2342, .dreturn] ls st h := rfl
theorem eb_229_16 : jx_eb d 229 16 ls st h = jx_ev d 229 [.aload 0, .invokeinterface 19 0, .iload 1] ls st h := rfl
theorem cr_229 {r : Nat} {a1 : Int32}  : jx_cr (d + 1) 229 [.ref r, .int a1] h = jx_eb d 229 0 [.ref r, .int a1] [] h := rfl
theorem eb_230_0 : jx_eb d 230 0 ls st h = jx_ev d 230 [.iload 0, .iload 1, .getstatic 2, .invokestatic 2363, .pop, .return_] ls st h := rfl
theorem cr_230 {a1 : Int32} {a2 : Int32}  : jx_cr (d + 1) 230 [.int a1, .int a2] h = jx_eb d 230 0 [.int a1, .int a2] [] h := rfl
theorem eb_231_0 : jx_eb d 231 0 ls st h = jx_ev d 231 [.getstatic 3, .ifCond .eq 13, .aload 0, .invokeinterface 19 1, .goto 14] ls st h := rfl
theorem eb_231_13 : jx_eb d 231 13 ls st h = jx_ev d 231 [.iconst 1, .goto_w 14] ls st h := rfl
theorem eb_231_14 : jx_eb d 231 14 ls st h = jx_ev d 231 [.dreturn] ls st h := rfl
theorem cr_231 {r : Nat}  : jx_cr (d + 1) 231 [.ref r] h = jx_eb d 231 0 [.ref r] [] h := rfl
theorem eb_232_0 : jx_eb d 232 0 ls st h = jx_ev d 232 [.getstatic 3, .ifCond .eq 17, .aload 0, .invokeinterface 19 1, .ifCond .ne 17, .iconst 1, .goto 18] ls st h := rfl
theorem eb_232_17 : jx_eb d 232 17 ls st h = jx_ev d 232 [.iconst 0, .goto_w 18] ls st h := rfl
theorem eb_232_18 : jx_eb d 232 18 ls st h = jx_ev d 232 [.freturn] ls st h := rfl
theorem cr_232 {r : Nat}  : jx_cr (d + 1) 232 [.ref r] h = jx_eb d 232 0 [.ref r] [] h := rfl
theorem eb_233_0 : jx_eb d 233 0 ls st h = jx_ev d 233 [.aload 0, .invokeinterface 19 0, .arraylength, .aload 0, .invokevirtual 192310, .ishr, .ireturn] ls st h := rfl
theorem cr_233 {r : Nat}  : jx_cr (d + 1) 233 [.ref r] h = jx_eb d 233 0 [.ref r] [] h := rfl
theorem eb_234_0 : jx_eb d 234 0 ls st h = jx_ev d 234 [.iload 1, .aload 0, .arraylength, .invokestatic 2302, .aload 0, .iload 1, .baload, .iconst 255, .iand, .i2c, .dreturn] ls st h := rfl
theorem cr_234 {a1 : Value} {a2 : Int32} (e1 : jx_ns a1 = true) : jx_cr (d + 1) 234 [a1, .int a2] h = jx_eb d 234 0 [a1, .int a2] [] h := by
  have q : jx_PP.2.1 234 [a1, .int a2] = some [a1, .int a2] := by
    show jx_le [false, false] 2 [a1, .int a2] = _
    simp only [jx_le, jx_la_f e1, jx_la_f jx_ns_i, jx_la_n, Option.map_some]
    rfl
  simp only [jx_cr, q]
theorem eb_235_0 : jx_eb d 235 0 ls st h = jx_ev d 235 [.aload 0, .monitorenter, .aload 0, .aload 0, .multianewarray 2 200, .aload 0, .getstatic 0, .multianewarray 2 201, .aload 0, .getstatic 1, .multianewarray 2 202, .iload 4, .ifCond .eq 36, .aload 0] ls st h := rfl
theorem eb_235_36 : jx_eb d 235 36 ls st h = jx_ev d 235 [.aload 0, .aconst_null, .multianewarray 2 201, .goto_w 41] ls st h := rfl
theorem eb_235_41 : jx_eb d 235 41 ls st h = jx_ev d 235 [.aload 0, .aload 1, .multianewarray 2 203, .aload 0, .aload 2, .multianewarray 2 200, .iload 3, .ifCond .ne 60, .aload 0, .aconst_null, .multianewarray 2 202, .goto_w 60] ls st h := rfl
theorem eb_235_60 : jx_eb d 235 60 ls st h = jx_ev d 235 [.return_] ls st h := rfl
theorem cr_235 {r : Nat} {a1 : Value} {a2 : Value} {a3 : Int32} {a4 : Int32} (e1 : jx_ns a1 = true) (e2 : jx_ns a2 = true) : jx_cr (d + 1) 235 [.ref r, a1, a2, .int a3, .int a4] h = jx_eb d 235 0 [.ref r, a1, a2, .int a3, .int a4] [] h := by
  have q : jx_PP.2.1 235 [.ref r, a1, a2, .int a3, .int a4] = some [.ref r, a1, a2, .int a3, .int a4] := by
    show jx_le [false, false, false, false, false] 5 [.ref r, a1, a2, .int a3, .int a4] = _
    simp only [jx_le, jx_la_f jx_ns_r, jx_la_f e1, jx_la_f e2, jx_la_f jx_ns_i, jx_la_f jx_ns_i, jx_la_n, Option.map_some]
    rfl
  simp only [jx_cr, q]
theorem eb_236_0 : jx_eb d 236 0 ls st h = jx_ev d 236 [.iload 0, .ifCond .lt 9, .iload 0, .iload 1, .if_icmp .lt 16, .goto_w 9] ls st h := rfl
theorem eb_236_9 : jx_eb d 236 9 ls st h = jx_ev d 236 [.aload 2, .iload 0, .iload 1] ls st h := rfl
theorem eb_236_16 : jx_eb d 236 16 ls st h = jx_ev d 236 [.iload 0, .ireturn] ls st h := rfl
theorem cr_236 {a1 : Int32} {a2 : Int32} {a3 : Value} (e3 : jx_ns a3 = true) : jx_cr (d + 1) 236 [.int a1, .int a2, a3] h = jx_eb d 236 0 [.int a1, .int a2, a3] [] h := by
  have q : jx_PP.2.1 236 [.int a1, .int a2, a3] = some [.int a1, .int a2, a3] := by
    show jx_le [false, false, false] 3 [.int a1, .int a2, a3] = _
    simp only [jx_le, jx_la_f jx_ns_i, jx_la_f jx_ns_i, jx_la_f e3, jx_la_n, Option.map_some]
    rfl
  simp only [jx_cr, q]
theorem xi_m8 : Int32.ofInt (-8) = (-8) := by decide
theorem xi_m3 : Int32.ofInt (-3) = (-3) := by decide
theorem xi_m2 : Int32.ofInt (-2) = (-2) := by decide
theorem xi_m1 : Int32.ofInt (-1) = (-1) := by decide
theorem xi_0 : Int32.ofInt 0 = 0 := by decide
theorem xi_1 : Int32.ofInt 1 = 1 := by decide
theorem xi_2 : Int32.ofInt 2 = 2 := by decide
theorem xi_3 : Int32.ofInt 3 = 3 := by decide
theorem xi_4 : Int32.ofInt 4 = 4 := by decide
theorem xi_5 : Int32.ofInt 5 = 5 := by decide
theorem xi_6 : Int32.ofInt 6 = 6 := by decide
theorem xi_7 : Int32.ofInt 7 = 7 := by decide
theorem xi_8 : Int32.ofInt 8 = 8 := by decide
theorem xi_9 : Int32.ofInt 9 = 9 := by decide
theorem xi_10 : Int32.ofInt 10 = 10 := by decide
theorem xi_11 : Int32.ofInt 11 = 11 := by decide
theorem xi_12 : Int32.ofInt 12 = 12 := by decide
theorem xi_13 : Int32.ofInt 13 = 13 := by decide
theorem xi_14 : Int32.ofInt 14 = 14 := by decide
theorem xi_15 : Int32.ofInt 15 = 15 := by decide
theorem xi_16 : Int32.ofInt 16 = 16 := by decide
theorem xi_20 : Int32.ofInt 20 = 20 := by decide
theorem xi_22 : Int32.ofInt 22 = 22 := by decide
theorem xi_24 : Int32.ofInt 24 = 24 := by decide
theorem xi_25 : Int32.ofInt 25 = 25 := by decide
theorem xi_28 : Int32.ofInt 28 = 28 := by decide
theorem xi_32 : Int32.ofInt 32 = 32 := by decide
theorem xi_37 : Int32.ofInt 37 = 37 := by decide
theorem xi_40 : Int32.ofInt 40 = 40 := by decide
theorem xi_42 : Int32.ofInt 42 = 42 := by decide
theorem xi_43 : Int32.ofInt 43 = 43 := by decide
theorem xi_45 : Int32.ofInt 45 = 45 := by decide
theorem xi_47 : Int32.ofInt 47 = 47 := by decide
theorem xi_48 : Int32.ofInt 48 = 48 := by decide
theorem xi_57 : Int32.ofInt 57 = 57 := by decide
theorem xi_59 : Int32.ofInt 59 = 59 := by decide
theorem xi_60 : Int32.ofInt 60 = 60 := by decide
theorem xi_61 : Int32.ofInt 61 = 61 := by decide
theorem xi_62 : Int32.ofInt 62 = 62 := by decide
theorem xi_63 : Int32.ofInt 63 = 63 := by decide
theorem xi_66 : Int32.ofInt 66 = 66 := by decide
theorem xi_72 : Int32.ofInt 72 = 72 := by decide
theorem xi_91 : Int32.ofInt 91 = 91 := by decide
theorem xi_93 : Int32.ofInt 93 = 93 := by decide
theorem xi_97 : Int32.ofInt 97 = 97 := by decide
theorem xi_99 : Int32.ofInt 99 = 99 := by decide
theorem xi_100 : Int32.ofInt 100 = 100 := by decide
theorem xi_122 : Int32.ofInt 122 = 122 := by decide
theorem xi_200 : Int32.ofInt 200 = 200 := by decide
theorem xi_255 : Int32.ofInt 255 = 255 := by decide
theorem xi_300 : Int32.ofInt 300 = 300 := by decide
theorem xi_400 : Int32.ofInt 400 = 400 := by decide
theorem xi_402 : Int32.ofInt 402 = 402 := by decide
theorem xi_427 : Int32.ofInt 427 = 427 := by decide
theorem xi_532 : Int32.ofInt 532 = 532 := by decide
theorem xi_560 : Int32.ofInt 560 = 560 := by decide
theorem xi_700 : Int32.ofInt 700 = 700 := by decide
theorem xi_999 : Int32.ofInt 999 = 999 := by decide
theorem xi_1800 : Int32.ofInt 1800 = 1800 := by decide
theorem xi_3500 : Int32.ofInt 3500 = 3500 := by decide
theorem xi_65536 : Int32.ofInt 65536 = 65536 := by decide
theorem xi_99999 : Int32.ofInt 99999 = 99999 := by decide
theorem xi_252645135 : Int32.ofInt 252645135 = 252645135 := by decide
theorem xi_858993459 : Int32.ofInt 858993459 = 858993459 := by decide
theorem xi_1431655765 : Int32.ofInt 1431655765 = 1431655765 := by decide
theorem xl_m1 : Int64.ofInt (-1) = (-1) := by decide
theorem xl_0 : Int64.ofInt 0 = 0 := by decide
theorem xl_1 : Int64.ofInt 1 = 1 := by decide
theorem xl_2 : Int64.ofInt 2 = 2 := by decide
theorem xl_3 : Int64.ofInt 3 = 3 := by decide
theorem xl_8 : Int64.ofInt 8 = 8 := by decide
theorem xl_9 : Int64.ofInt 9 = 9 := by decide
theorem xl_10 : Int64.ofInt 10 = 10 := by decide
theorem xl_14 : Int64.ofInt 14 = 14 := by decide
theorem xl_20 : Int64.ofInt 20 = 20 := by decide
theorem xl_48 : Int64.ofInt 48 = 48 := by decide
theorem xl_57 : Int64.ofInt 57 = 57 := by decide
theorem xl_60 : Int64.ofInt 60 = 60 := by decide
theorem xl_99 : Int64.ofInt 99 = 99 := by decide
theorem xl_100 : Int64.ofInt 100 = 100 := by decide
theorem xl_9999 : Int64.ofInt 9999 = 9999 := by decide
theorem xl_12345 : Int64.ofInt 12345 = 12345 := by decide
theorem xl_1103515245 : Int64.ofInt 1103515245 = 1103515245 := by decide
theorem xl_2147483648 : Int64.ofInt 2147483648 = 2147483648 := by decide
theorem xx_0 {n : Nat} : jx_ix 0 n = if 0 < n then some 0 else none := jx_ix_l 0 0 (by decide)
theorem xx_1 {n : Nat} : jx_ix 1 n = if 1 < n then some 1 else none := jx_ix_l 1 1 (by decide)
theorem xx_2 {n : Nat} : jx_ix 2 n = if 2 < n then some 2 else none := jx_ix_l 2 2 (by decide)
theorem xx_3 {n : Nat} : jx_ix 3 n = if 3 < n then some 3 else none := jx_ix_l 3 3 (by decide)
theorem xx_4 {n : Nat} : jx_ix 4 n = if 4 < n then some 4 else none := jx_ix_l 4 4 (by decide)
theorem xx_5 {n : Nat} : jx_ix 5 n = if 5 < n then some 5 else none := jx_ix_l 5 5 (by decide)
theorem xx_6 {n : Nat} : jx_ix 6 n = if 6 < n then some 6 else none := jx_ix_l 6 6 (by decide)
theorem xx_7 {n : Nat} : jx_ix 7 n = if 7 < n then some 7 else none := jx_ix_l 7 7 (by decide)
theorem xx_8 {n : Nat} : jx_ix 8 n = if 8 < n then some 8 else none := jx_ix_l 8 8 (by decide)
theorem xx_9 {n : Nat} : jx_ix 9 n = if 9 < n then some 9 else none := jx_ix_l 9 9 (by decide)
theorem xx_10 {n : Nat} : jx_ix 10 n = if 10 < n then some 10 else none := jx_ix_l 10 10 (by decide)
theorem xx_11 {n : Nat} : jx_ix 11 n = if 11 < n then some 11 else none := jx_ix_l 11 11 (by decide)
theorem xx_12 {n : Nat} : jx_ix 12 n = if 12 < n then some 12 else none := jx_ix_l 12 12 (by decide)
theorem xx_13 {n : Nat} : jx_ix 13 n = if 13 < n then some 13 else none := jx_ix_l 13 13 (by decide)
theorem xx_14 {n : Nat} : jx_ix 14 n = if 14 < n then some 14 else none := jx_ix_l 14 14 (by decide)
theorem xx_15 {n : Nat} : jx_ix 15 n = if 15 < n then some 15 else none := jx_ix_l 15 15 (by decide)
theorem xx_16 {n : Nat} : jx_ix 16 n = if 16 < n then some 16 else none := jx_ix_l 16 16 (by decide)
theorem xx_17 {n : Nat} : jx_ix 17 n = if 17 < n then some 17 else none := jx_ix_l 17 17 (by decide)
theorem xx_18 {n : Nat} : jx_ix 18 n = if 18 < n then some 18 else none := jx_ix_l 18 18 (by decide)
theorem xx_19 {n : Nat} : jx_ix 19 n = if 19 < n then some 19 else none := jx_ix_l 19 19 (by decide)
theorem xx_20 {n : Nat} : jx_ix 20 n = if 20 < n then some 20 else none := jx_ix_l 20 20 (by decide)
theorem xx_21 {n : Nat} : jx_ix 21 n = if 21 < n then some 21 else none := jx_ix_l 21 21 (by decide)
theorem xx_22 {n : Nat} : jx_ix 22 n = if 22 < n then some 22 else none := jx_ix_l 22 22 (by decide)
theorem xx_23 {n : Nat} : jx_ix 23 n = if 23 < n then some 23 else none := jx_ix_l 23 23 (by decide)
theorem xx_24 {n : Nat} : jx_ix 24 n = if 24 < n then some 24 else none := jx_ix_l 24 24 (by decide)
theorem xx_25 {n : Nat} : jx_ix 25 n = if 25 < n then some 25 else none := jx_ix_l 25 25 (by decide)
theorem xx_26 {n : Nat} : jx_ix 26 n = if 26 < n then some 26 else none := jx_ix_l 26 26 (by decide)
theorem xx_27 {n : Nat} : jx_ix 27 n = if 27 < n then some 27 else none := jx_ix_l 27 27 (by decide)
theorem xx_28 {n : Nat} : jx_ix 28 n = if 28 < n then some 28 else none := jx_ix_l 28 28 (by decide)
theorem xx_29 {n : Nat} : jx_ix 29 n = if 29 < n then some 29 else none := jx_ix_l 29 29 (by decide)
theorem xx_30 {n : Nat} : jx_ix 30 n = if 30 < n then some 30 else none := jx_ix_l 30 30 (by decide)
theorem xh_193 : jx_PP.2.2.2 193 = false := rfl
theorem xh_194 : jx_PP.2.2.2 194 = false := rfl
theorem xh_195 : jx_PP.2.2.2 195 = false := rfl
theorem xh_196 : jx_PP.2.2.2 196 = false := rfl
theorem xh_197 : jx_PP.2.2.2 197 = false := rfl
theorem xh_198 : jx_PP.2.2.2 198 = false := rfl
theorem xh_199 : jx_PP.2.2.2 199 = false := rfl
theorem xh_200 : jx_PP.2.2.2 200 = false := rfl
theorem xh_201 : jx_PP.2.2.2 201 = false := rfl
theorem xh_202 : jx_PP.2.2.2 202 = false := rfl
theorem xh_203 : jx_PP.2.2.2 203 = false := rfl
theorem xh_204 : jx_PP.2.2.2 204 = false := rfl
theorem xh_205 : jx_PP.2.2.2 205 = false := rfl
theorem xh_206 : jx_PP.2.2.2 206 = false := rfl
theorem xh_207 : jx_PP.2.2.2 207 = false := rfl
theorem xh_208 : jx_PP.2.2.2 208 = false := rfl
theorem xh_209 : jx_PP.2.2.2 209 = false := rfl
theorem xh_210 : jx_PP.2.2.2 210 = false := rfl
theorem xh_211 : jx_PP.2.2.2 211 = false := rfl
theorem xh_212 : jx_PP.2.2.2 212 = false := rfl
theorem xh_213 : jx_PP.2.2.2 213 = false := rfl
theorem xh_214 : jx_PP.2.2.2 214 = false := rfl
theorem xh_215 : jx_PP.2.2.2 215 = false := rfl
theorem xh_216 : jx_PP.2.2.2 216 = false := rfl
theorem xh_217 : jx_PP.2.2.2 217 = false := rfl
theorem xh_218 : jx_PP.2.2.2 218 = false := rfl
theorem xh_219 : jx_PP.2.2.2 219 = false := rfl
theorem xh_220 : jx_PP.2.2.2 220 = false := rfl
theorem xh_221 : jx_PP.2.2.2 221 = false := rfl
end XB
