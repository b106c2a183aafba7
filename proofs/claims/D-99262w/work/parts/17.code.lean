/-! THE CODE (printed by tools/emit.py) -/
set_option maxRecDepth 100000
/-- SC.in -/
def bk_1 : List (Nat × List Instr) := [
  (0, [.lload 0, .lload 2, .lcmp, .ifCond .lt 17, .lload 0, .lload 4, .lcmp, .ifCond .gt 17, .iconst 1, .goto 18]),
  (17, [.iconst 0, .goto_w 18]),
  (18, [.freturn])]
/-- SC.has -/
def bk_2 : List (Nat × List Instr) := [
  (0, [.iload 0, .iload 1, .ishr, .iconst 1, .iand, .iconst 1, .if_icmp .ne 13, .iconst 1, .goto 14]),
  (13, [.iconst 0, .goto_w 14]),
  (14, [.freturn])]
/-- SC.init -/
def bk_3 : List (Nat × List Instr) := [
  (0, [.aload 0, .monitorenter, .aload 0, .new 1, .dup, .invokespecial 1660, .multianewarray 0 201, .aload 0, .new 1, .dup, .invokespecial 1660, .multianewarray 0 202, .aload 0, .new 1, .dup, .invokespecial 1660, .multianewarray 0 203, .aload 0, .new 1, .dup, .invokespecial 1660, .multianewarray 0 204, .aload 0, .iconst (-1), .multianewarray 0 6, .aload 0, .new 2, .dup, .invokespecial 1820, .multianewarray 0 207, .aload 0, .iconst 400, .newarray .byte, .multianewarray 0 208, .aload 0, .iconst 5, .anewarray 4, .dup, .iconst 0, .ldc 1, .aastore, .dup, .iconst 1, .ldc 2, .aastore, .dup, .iconst 2, .ldc 3, .aastore, .dup, .iconst 3, .ldc 4, .aastore, .dup, .iconst 4, .ldc 5, .aastore, .multianewarray 0 210, .aload 0, .iconst 1, .anewarray 4, .dup, .iconst 0, .ldc 6, .aastore, .multianewarray 0 211, .aload 0, .iconst 12, .anewarray 4, .dup, .iconst 0, .ldc 2, .aastore, .dup, .iconst 1, .ldc 7, .aastore, .dup, .iconst 2, .ldc 8, .aastore, .dup, .iconst 3, .ldc 9, .aastore, .dup, .iconst 4, .ldc 10, .aastore, .dup, .iconst 5, .ldc 11, .aastore, .dup, .iconst 6, .ldc 12, .aastore, .dup, .iconst 7, .ldc 13, .aastore, .dup, .iconst 8, .ldc 14, .aastore, .dup, .iconst 9, .ldc 15, .aastore, .dup, .iconst 10, .ldc 16, .aastore, .dup, .iconst 11, .ldc 17, .aastore, .multianewarray 0 212, .aload 0, .iconst 6, .anewarray 5, .multianewarray 0 213, .aload 0, .iconst 25, .newarray .int, .multianewarray 0 215, .aload 0, .iconst 25, .newarray .int, .multianewarray 0 216, .aload 0, .iconst 66, .newarray .int, .multianewarray 0 217, .aload 0, .iconst 7, .newarray .boolean, .multianewarray 0 218, .aload 0, .iconst 427, .newarray .int, .multianewarray 0 219, .aload 0, .iconst 4, .anewarray 7, .multianewarray 0 221, .return_])]
/-- SC.feed -/
def bk_4 : List (Nat × List Instr) := [
  (0, [.aload 0, .invokeinterface 0 9, .iconst 20, .iadd, .iconst 400, .if_icmp .le 15, .iconst (-1), .ireturn]),
  (15, [.aload 0, .iload 1, .invokevirtual 51, .aload 0, .iload 2, .invokevirtual 51, .aload 0, .iload 3, .invokevirtual 51, .aload 0, .iload 4, .invokevirtual 51, .aload 0, .iload 5, .invokevirtual 51, .aload 0, .invokeinterface 0 9, .ireturn])]
/-- SC.four -/
def bk_5 : List (Nat × List Instr) := [
  (0, [.iconst 24, .istore 2, .goto_w 3]),
  (3, [.iload 2, .ifCond .lt 36, .aload 0, .invokeinterface 0 8, .aload 0, .invokeinterface 0 9, .iload 1, .iload 2, .ishr, .i2b, .bastore, .aload 0, .dup, .invokeinterface 0 9, .iconst 1, .iadd, .multianewarray 0 9, .iinc 2 (-8), .goto 3]),
  (36, [.return_])]
/-- SC.end -/
def bk_6 : List (Nat × List Instr) := [
  (0, [.iload 1, .ifCond .lt 12, .iload 1, .aload 0, .invokeinterface 0 9, .if_icmp .le 14, .goto_w 12]),
  (12, [.iconst (-1), .ireturn]),
  (14, [.aload 0, .iload 1, .multianewarray 0 9, .iload 1, .ireturn])]
/-- SC.faulted -/
def bk_7 : List (Nat × List Instr) := [
  (0, [.iconst (-2), .iconst 1, .iconst 8, .aload 0, .invokeinterface 0 7, .invokeinterface 2 7, .imul, .iadd, .aload 0, .invokeinterface 0 7, .invokeinterface 2 6, .iadd, .isub, .ireturn])]
/-- SC.court -/
def bk_8 : List (Nat × List Instr) := [
  (0, [.aload 0, .aload 0, .invokeinterface 0 1, .new 4, .dup, .aload 0, .invokespecial 1931, .invokevirtual 342042120, .invokevirtual 11671, .multianewarray 0 200, .aload 0, .invokeinterface 0 0, .invokeinterface 1 2, .istore 1, .goto 39]),
  (34, [.aload 0, .invokevirtual 70, .istore 1, .goto_w 39]),
  (39, [.aload 0, .iconst 0, .multianewarray 0 9, .iload 1, .ireturn])]
/-- SC.rule -/
def bk_9 : List (Nat × List Instr) := [
  (0, [.aload 0, .invokeinterface 0 14, .iconst 6, .if_icmp .ne 11, .iconst (-1), .ireturn]),
  (11, [.aload 0, .invokeinterface 0 14, .istore 1, .aload 0, .invokeinterface 0 13, .aload 0, .invokeinterface 0 14, .new 4, .dup, .aload 0, .invokespecial 1931, .invokevirtual 502042140, .aastore, .aload 0, .dup, .invokeinterface 0 14, .iconst 1, .iadd, .multianewarray 0 14, .goto 55]),
  (50, [.aload 0, .invokevirtual 70, .istore 1, .goto_w 55]),
  (55, [.aload 0, .iconst 0, .multianewarray 0 9, .iload 1, .ireturn])]
/-- SC.force -/
def bk_10 : List (Nat × List Instr) := [
  (0, [.iload 1, .iconst (-1), .if_icmp .eq 20, .iload 1, .ifCond .lt 17, .iload 1, .aload 0, .invokeinterface 0 14, .if_icmp .lt 20, .goto_w 17]),
  (17, [.iconst (-2), .ireturn]),
  (20, [.aload 0, .invokeinterface 0 6, .istore 2, .aload 0, .iload 1, .multianewarray 0 6, .iload 2, .ireturn])]
/-- SC.law -/
def bk_11 : List (Nat × List Instr) := [
  (0, [.aload 0, .invokeinterface 0 6, .iconst (-1), .if_icmp .ne 12, .aconst_null, .goto 21]),
  (12, [.aload 0, .invokeinterface 0 13, .aload 0, .invokeinterface 0 6, .aaload, .goto_w 21]),
  (21, [.areturn])]
/-- SC.isThing -/
def bk_12 : List (Nat × List Instr) := [
  (0, [.aload 0, .invokeinterface 0 0, .ifnull 26, .iload 1, .ifCond .lt 26, .iload 1, .aload 0, .invokeinterface 0 0, .invokeinterface 1 2, .if_icmp .ge 26, .iconst 1, .goto 27]),
  (26, [.iconst 0, .goto_w 27]),
  (27, [.freturn])]
/-- SC.isPerson -/
def bk_13 : List (Nat × List Instr) := [
  (0, [.aload 0, .invokeinterface 0 0, .ifnull 26, .iload 1, .ifCond .lt 26, .iload 1, .aload 0, .invokeinterface 0 0, .invokeinterface 1 3, .if_icmp .ge 26, .iconst 1, .goto 27]),
  (26, [.iconst 0, .goto_w 27]),
  (27, [.freturn])]
/-- SC.thing -/
def bk_14 : List (Nat × List Instr) := [
  (0, [.aload 0, .iload 1, .invokevirtual 121, .ifCond .ne 10, .iconst (-1), .ireturn]),
  (10, [.iload 2, .tableswitch 79 0 3 #[40, 50, 60, 69]]),
  (40, [.aload 0, .invokeinterface 0 0, .invokeinterface 1 11, .iload 1, .iaload, .ireturn]),
  (50, [.aload 0, .invokeinterface 0 0, .invokeinterface 1 17, .iload 1, .iaload, .ireturn]),
  (60, [.aload 0, .invokeinterface 0 0, .iload 1, .invokevirtual 11741, .ireturn]),
  (69, [.aload 0, .invokeinterface 0 0, .invokeinterface 1 13, .iload 1, .iaload, .ireturn]),
  (79, [.iconst (-1), .ireturn])]
/-- SC.usual -/
def bk_15 : List (Nat × List Instr) := [
  (0, [.aload 0, .invokeinterface 0 0, .ifnull 26, .iload 1, .i2l, .jsr 0, .aload 0, .invokeinterface 0 0, .invokeinterface 1 0, .iconst 1, .isub, .i2l, .invokestatic 13, .ifCond .ne 31, .goto_w 26]),
  (26, [.iconst (-2), .goto 40]),
  (31, [.aload 0, .invokeinterface 0 0, .invokeinterface 1 12, .iload 1, .iaload, .goto_w 40]),
  (40, [.ireturn])]
/-- SC.person -/
def bk_16 : List (Nat × List Instr) := [
  (0, [.aload 0, .iload 1, .invokevirtual 131, .ifCond .ne 10, .iconst (-1), .ireturn]),
  (10, [.iload 2, .tableswitch 93 0 4 #[44, 54, 64, 74, 83]]),
  (44, [.aload 0, .invokeinterface 0 0, .invokeinterface 1 18, .iload 1, .iaload, .ireturn]),
  (54, [.aload 0, .invokeinterface 0 0, .invokeinterface 1 15, .iload 1, .iaload, .ireturn]),
  (64, [.aload 0, .invokeinterface 0 0, .invokeinterface 1 19, .iload 1, .iaload, .ireturn]),
  (74, [.aload 0, .invokeinterface 0 0, .iload 1, .invokevirtual 11721, .ireturn]),
  (83, [.aload 0, .invokeinterface 0 0, .invokeinterface 1 20, .iload 1, .iaload, .ireturn]),
  (93, [.iconst (-1), .ireturn])]
/-- SC.keepsAct -/
def bk_17 : List (Nat × List Instr) := [
  (0, [.aload 0, .invokeinterface 0 0, .invokeinterface 1 5, .iconst 20, .if_icmp .ne 48, .aload 0, .invokeinterface 0 0, .invokeinterface 1 21, .iconst 28, .aload 0, .invokeinterface 0 0, .invokeinterface 1 21, .iconst 0, .iconst 532, .monitorexit, .aload 0, .invokeinterface 0 0, .dup, .invokeinterface 1 5, .iconst 1, .isub, .multianewarray 1 5, .goto_w 48]),
  (48, [.aload 0, .invokeinterface 0 0, .aload 0, .invokeinterface 0 0, .invokeinterface 1 5, .invokevirtual 11691, .aload 0, .invokeinterface 0 0, .dup, .invokeinterface 1 5, .iconst 1, .iadd, .multianewarray 1 5, .return_])]
/-- SC.undo -/
def bk_18 : List (Nat × List Instr) := [
  (0, [.aload 0, .invokeinterface 0 0, .ifnull 17, .aload 0, .invokeinterface 0 0, .invokeinterface 1 5, .ifCond .ne 20, .goto_w 17]),
  (17, [.iconst (-2), .ireturn]),
  (20, [.aload 0, .invokeinterface 0 0, .dup, .invokeinterface 1 5, .iconst 1, .isub, .multianewarray 1 5, .aload 0, .invokeinterface 0 0, .aload 0, .invokeinterface 0 0, .invokeinterface 1 5, .invokevirtual 11701, .aload 0, .invokeinterface 0 0, .invokeinterface 1 5, .ireturn])]
/-- SC.hour -/
def bk_19 : List (Nat × List Instr) := [
  (0, [.aload 0, .invokeinterface 0 0, .ifnull 20, .aload 0, .invokeinterface 0 0, .invokeinterface 1 7, .iconst 999, .if_icmp .ne 22, .goto_w 20]),
  (20, [.iconst (-1), .ireturn]),
  (22, [.aload 0, .invokevirtual 170, .aload 0, .invokeinterface 0 0, .aload 0, .invokevirtual 110, .invokevirtual 11801, .ireturn])]
/-- SC.deed -/
def bk_20 : List (Nat × List Instr) := [
  (0, [.aload 0, .iload 1, .invokevirtual 131, .ifCond .eq 20, .iload 2, .i2l, .jsr 1, .jsr 99, .invokestatic 13, .ifCond .ne 22, .goto_w 20]),
  (20, [.iconst (-1), .ireturn]),
  (22, [.aload 0, .invokevirtual 170, .aload 0, .invokeinterface 0 0, .iload 1, .iload 2, .invokevirtual 11762, .aload 0, .invokeinterface 0 0, .invokeinterface 1 18, .iload 1, .iaload, .ireturn])]
/-- SC.slight -/
def bk_21 : List (Nat × List Instr) := [
  (0, [.aload 0, .iload 1, .invokevirtual 131, .ifCond .eq 33, .iload 2, .i2l, .jsr 1, .jsr 99, .invokestatic 13, .ifCond .eq 33, .aload 0, .invokeinterface 0 0, .invokeinterface 1 18, .iload 1, .iaload, .iload 2, .if_icmp .ge 35, .goto_w 33]),
  (33, [.iconst (-1), .ireturn]),
  (35, [.aload 0, .invokevirtual 170, .aload 0, .invokeinterface 0 0, .invokeinterface 1 18, .iload 1, .dup2, .iaload, .iload 2, .isub, .iastore, .aload 0, .invokeinterface 0 0, .invokeinterface 1 18, .iload 1, .iaload, .ireturn])]
/-- SC.tray -/
def bk_22 : List (Nat × List Instr) := [
  (0, [.aload 0, .invokeinterface 0 0, .ifnull 31, .iload 1, .iconst (-1), .if_icmp .eq 20, .aload 0, .iload 1, .invokevirtual 121, .ifCond .eq 31, .goto_w 20]),
  (20, [.aload 0, .invokeinterface 0 0, .invokeinterface 1 9, .iload 1, .if_icmp .ne 34, .goto_w 31]),
  (31, [.iconst (-2), .ireturn]),
  (34, [.aload 0, .invokevirtual 170, .aload 0, .invokeinterface 0 0, .invokeinterface 1 9, .istore 2, .aload 0, .invokeinterface 0 0, .iload 1, .multianewarray 1 9, .iload 2, .ireturn])]
/-- SC.gloves -/
def bk_23 : List (Nat × List Instr) := [
  (0, [.aload 0, .invokeinterface 0 0, .ifnull 19, .iload 1, .i2l, .jsr 1, .jsr 9, .invokestatic 13, .ifCond .ne 21, .goto_w 19]),
  (19, [.iconst (-1), .ireturn]),
  (21, [.aload 0, .invokevirtual 170, .aload 0, .invokeinterface 0 0, .invokeinterface 1 10, .istore 2, .aload 0, .invokeinterface 0 0, .iload 1, .multianewarray 1 10, .iload 2, .ireturn])]
/-- SC.strip -/
def bk_24 : List (Nat × List Instr) := [
  (0, [.aload 0, .iload 1, .invokevirtual 131, .ifCond .eq 32, .aload 0, .iload 2, .invokevirtual 121, .ifCond .eq 32, .aload 0, .invokeinterface 0 0, .invokeinterface 1 19, .iload 1, .iaload, .iload 2, .invokestatic 22, .ifCond .ne 34, .goto_w 32]),
  (32, [.iconst (-1), .ireturn]),
  (34, [.aload 0, .invokevirtual 170, .aload 0, .invokeinterface 0 0, .invokeinterface 1 19, .iload 1, .dup2, .iaload, .iconst 1, .iload 2, .ishl, .iconst (-1), .ixor, .iand, .iastore, .aload 0, .invokeinterface 0 0, .invokeinterface 1 19, .iload 1, .iaload, .ireturn])]
/-- SC.ahead -/
def bk_25 : List (Nat × List Instr) := [
  (0, [.aload 0, .invokeinterface 0 0, .ifnull 43, .iload 2, .i2l, .jsr 0, .jsr 100, .invokestatic 13, .ifCond .eq 43, .iload 3, .i2l, .jsr 0, .jsr 2, .invokestatic 13, .ifCond .eq 43, .iload 3, .ifCond .le 46, .aload 0, .iload 1, .invokevirtual 131, .ifCond .ne 46, .goto_w 43]),
  (43, [.iconst (-2), .ireturn]),
  (46, [.aload 0, .invokeinterface 0 2, .aload 0, .invokeinterface 0 0, .invokevirtual 11671, .iload 2, .aload 0, .invokevirtual 110, .invokevirtual 11812, .pop, .iload 3, .ifCond .ne 84, .aload 0, .invokeinterface 0 2, .aload 0, .invokevirtual 110, .invokevirtual 11781, .goto 110]),
  (84, [.iload 3, .iconst 1, .if_icmp .ne 101, .aload 0, .invokeinterface 0 2, .invokeinterface 1 19, .iload 1, .iaload, .goto 110]),
  (101, [.aload 0, .invokeinterface 0 2, .invokeinterface 1 18, .iload 1, .iaload, .goto_w 110]),
  (110, [.ireturn])]
/-- SC.dubbed -/
def bk_26 : List (Nat × List Instr) := [
  (0, [.aload 0, .iload 1, .invokevirtual 131, .ifCond .eq 18, .iload 2, .i2l, .jsr 0, .jsr 1, .invokestatic 13, .ifCond .ne 21, .goto_w 18]),
  (18, [.iconst (-3), .ireturn]),
  (21, [.aload 0, .invokeinterface 0 2, .aload 0, .invokeinterface 0 0, .invokevirtual 11671, .pop, .iconst 0, .istore 3, .goto_w 35]),
  (35, [.iload 3, .iconst 100, .if_icmp .ge 89, .aload 0, .invokeinterface 0 2, .aload 0, .invokevirtual 110, .invokevirtual 11801, .iload 1, .invokestatic 22, .ifCond .eq 83, .iload 2, .ifCond .ne 75, .aload 0, .invokeinterface 0 2, .invokeinterface 1 7, .iconst 1, .isub, .goto 82]),
  (75, [.aload 0, .invokeinterface 0 2, .invokeinterface 1 8, .goto_w 82]),
  (82, [.ireturn]),
  (83, [.iinc 3 1, .goto 35]),
  (89, [.iconst (-2), .ireturn])]
/-- SC.least -/
def bk_27 : List (Nat × List Instr) := [
  (0, [.aload 0, .iload 1, .invokevirtual 131, .ifCond .eq 28, .aload 0, .iload 2, .invokevirtual 121, .ifCond .eq 28, .iload 3, .i2l, .jsr 1, .jsr 60, .invokestatic 13, .ifCond .ne 30, .goto_w 28]),
  (28, [.iconst (-1), .ireturn]),
  (30, [.aload 0, .invokeinterface 0 2, .aload 0, .invokeinterface 0 0, .invokevirtual 11671, .pop, .iconst 0, .istore 4, .goto_w 45]),
  (45, [.iload 4, .iconst 200, .if_icmp .gt 103, .aload 0, .invokeinterface 0 2, .aload 0, .invokeinterface 0 0, .invokevirtual 11681, .iload 1, .iload 4, .invokevirtual 11762, .aload 0, .invokeinterface 0 2, .iload 3, .aload 0, .invokevirtual 110, .invokevirtual 11812, .invokeinterface 1 19, .iload 1, .iaload, .iload 2, .invokestatic 22, .ifCond .eq 97, .iload 4, .ireturn]),
  (97, [.iinc 4 1, .goto 45]),
  (103, [.iconst (-2), .ireturn])]
/-- SC.isSpared -/
def bk_28 : List (Nat × List Instr) := [
  (0, [.aload 0, .invokeinterface 0 2, .aload 0, .invokeinterface 0 0, .invokevirtual 11681, .pop, .iconst 0, .istore 4, .goto_w 15]),
  (15, [.iload 4, .iload 2, .if_icmp .ge 67, .aload 0, .invokeinterface 0 2, .iload 3, .iload 4, .ishr, .iconst 1, .iand, .multianewarray 1 10, .aload 0, .invokeinterface 0 2, .aload 0, .invokevirtual 110, .invokevirtual 11801, .ifCond .eq 61, .aload 0, .invokeinterface 0 2, .invokeinterface 1 8, .iload 1, .if_icmp .ne 61, .iconst 0, .freturn]),
  (61, [.iinc 4 1, .goto 15]),
  (67, [.iconst 1, .freturn])]
/-- SC.spare -/
def bk_29 : List (Nat × List Instr) := [
  (0, [.aload 0, .iload 1, .invokevirtual 121, .ifCond .eq 30, .iload 2, .i2l, .jsr 1, .jsr 8, .invokestatic 13, .ifCond .eq 30, .iload 3, .i2l, .jsr 0, .jsr 1, .invokestatic 13, .ifCond .ne 32, .goto_w 30]),
  (30, [.iconst (-1), .ireturn]),
  (32, [.aload 0, .invokeinterface 0 2, .aload 0, .invokeinterface 0 0, .invokevirtual 11671, .pop, .iconst (-1), .istore 4, .iconst 0, .istore 5, .goto_w 50]),
  (50, [.iload 5, .iconst 1, .iload 2, .ishl, .if_icmp .ge 101, .iload 4, .iconst (-1), .if_icmp .eq 80, .iload 5, .invokestatic 2271, .iload 4, .invokestatic 2271, .if_icmp .lt 80, .goto 95]),
  (80, [.aload 0, .iload 1, .iload 2, .iload 5, .invokevirtual 283, .ifCond .eq 95, .iload 5, .istore 4, .goto_w 95]),
  (95, [.iinc 5 1, .goto 50]),
  (101, [.iload 3, .ifCond .ne 113, .iload 4, .invokestatic 2271, .goto 115]),
  (113, [.iload 4, .goto_w 115]),
  (115, [.ireturn])]
/-- SC.rankBy -/
def bk_30 : List (Nat × List Instr) := [
  (0, [.aload 0, .invokeinterface 0 2, .aload 0, .invokeinterface 0 0, .invokevirtual 11681, .pop, .aload 0, .invokeinterface 0 2, .iload 2, .multianewarray 1 9, .aload 0, .invokeinterface 0 2, .iload 3, .aload 0, .invokevirtual 110, .invokevirtual 11812, .iload 1, .invokevirtual 11721, .ireturn])]
/-- SC.lay -/
def bk_31 : List (Nat × List Instr) := [
  (0, [.aload 0, .iload 1, .invokevirtual 131, .ifCond .eq 30, .iload 2, .i2l, .jsr 1, .jsr 60, .invokestatic 13, .ifCond .eq 30, .iload 3, .i2l, .jsr 0, .jsr 1, .invokestatic 13, .ifCond .ne 33, .goto_w 30]),
  (30, [.iconst (-2), .ireturn]),
  (33, [.aload 0, .invokeinterface 0 2, .aload 0, .invokeinterface 0 0, .invokevirtual 11671, .pop, .iconst (-1), .istore 4, .aload 0, .iload 1, .iconst (-1), .iload 2, .invokevirtual 303, .istore 5, .iconst 0, .istore 6, .goto_w 60]),
  (60, [.iload 6, .aload 0, .invokeinterface 0 0, .invokeinterface 1 2, .if_icmp .ge 106, .aload 0, .iload 1, .iload 6, .iload 2, .invokevirtual 303, .istore 7, .iload 7, .iload 5, .if_icmp .gt 92, .goto 100]),
  (92, [.iload 6, .istore 4, .iload 7, .istore 5, .goto_w 100]),
  (100, [.iinc 6 1, .goto 60]),
  (106, [.iload 3, .ifCond .ne 115, .iload 4, .goto 117]),
  (115, [.iload 5, .goto_w 117]),
  (117, [.ireturn])]
/-- SC.held -/
def bk_32 : List (Nat × List Instr) := [
  (0, [.aload 0, .invokeinterface 0 0, .ifnull 33, .iload 1, .i2l, .jsr 1, .jsr 100, .invokestatic 13, .ifCond .eq 33, .iload 2, .iconst 6, .if_icmp .eq 35, .aload 0, .iload 2, .invokevirtual 121, .ifCond .ne 35, .goto_w 33]),
  (33, [.iconst (-1), .ireturn]),
  (35, [.aload 0, .invokeinterface 0 2, .aload 0, .invokeinterface 0 0, .invokevirtual 11671, .iload 1, .aload 0, .invokevirtual 110, .invokevirtual 11812, .pop, .iload 2, .iconst 6, .if_icmp .ge 81, .aload 0, .invokeinterface 0 2, .invokeinterface 1 17, .iload 2, .iaload, .aload 0, .invokeinterface 0 0, .invokeinterface 1 17, .iload 2, .iaload, .isub, .ireturn]),
  (81, [.iconst 0, .istore 3, .iconst 0, .istore 4, .goto_w 86]),
  (86, [.iload 4, .aload 0, .invokeinterface 0 0, .invokeinterface 1 2, .if_icmp .ge 138, .iload 3, .aload 0, .invokeinterface 0 2, .invokeinterface 1 17, .iload 4, .iaload, .aload 0, .invokeinterface 0 0, .invokeinterface 1 17, .iload 4, .iaload, .if_icmp .ne 129, .iconst 1, .iload 4, .ishl, .goto 130]),
  (129, [.iconst 0, .goto_w 130]),
  (130, [.ior, .istore 3, .iinc 4 1, .goto 86]),
  (138, [.iload 3, .ireturn])]
/-- SC.place -/
def bk_33 : List (Nat × List Instr) := [
  (0, [.aload 0, .iload 1, .invokevirtual 131, .ifCond .ne 10, .iconst (-1), .ireturn]),
  (10, [.aload 0, .invokeinterface 0 0, .iload 1, .invokevirtual 11721, .istore 2, .iconst 0, .istore 3, .iconst 0, .istore 4, .goto_w 24]),
  (24, [.iload 4, .aload 0, .invokeinterface 0 0, .invokeinterface 1 3, .if_icmp .ge 82, .iload 3, .aload 0, .invokeinterface 0 0, .iload 4, .invokevirtual 11721, .iload 2, .if_icmp .gt 69, .aload 0, .invokeinterface 0 0, .iload 4, .invokevirtual 11721, .iload 2, .if_icmp .ne 73, .iload 4, .iload 1, .if_icmp .ge 73, .goto_w 69]),
  (69, [.iconst 1, .goto 74]),
  (73, [.iconst 0, .goto_w 74]),
  (74, [.iadd, .istore 3, .iinc 4 1, .goto 24]),
  (82, [.iload 3, .ireturn])]
/-- SC.doQuarrel -/
def bk_34 : List (Nat × List Instr) := [
  (0, [.iconst 0, .istore 3, .goto_w 2]),
  (2, [.iload 3, .aload 0, .invokeinterface 0 0, .invokeinterface 1 2, .if_icmp .ge 59, .aload 0, .invokeinterface 0 0, .invokeinterface 1 19, .iload 1, .iaload, .iload 3, .invokestatic 22, .ifCond .eq 53, .aload 0, .invokeinterface 0 0, .invokeinterface 1 13, .iload 3, .iaload, .aload 0, .invokeinterface 0 0, .invokeinterface 1 19, .iload 2, .iaload, .iand, .ifCond .eq 53, .iconst 1, .freturn]),
  (53, [.iinc 3 1, .goto 2]),
  (59, [.iconst 0, .freturn])]
/-- SC.arePeaceful -/
def bk_35 : List (Nat × List Instr) := [
  (0, [.iconst 0, .istore 2, .goto_w 2]),
  (2, [.iload 2, .aload 0, .invokeinterface 0 0, .invokeinterface 1 3, .if_icmp .ge 59, .iconst 0, .istore 3, .goto_w 15]),
  (15, [.iload 3, .iload 2, .if_icmp .gt 53, .iload 1, .iload 2, .invokestatic 22, .ifCond .eq 47, .iload 1, .iload 3, .invokestatic 22, .ifCond .eq 47, .aload 0, .iload 2, .iload 3, .invokevirtual 342, .ifCond .eq 47, .iconst 0, .freturn]),
  (47, [.iinc 3 1, .goto 15]),
  (53, [.iinc 2 1, .goto 2]),
  (59, [.iconst 1, .freturn])]
/-- SC.stripped -/
def bk_36 : List (Nat × List Instr) := [
  (0, [.aload 0, .invokeinterface 0 0, .ifnull 17, .iload 1, .i2l, .jsr 0, .jsr 1, .invokestatic 13, .ifCond .ne 19, .goto_w 17]),
  (17, [.iconst (-1), .ireturn]),
  (19, [.iconst 1, .aload 0, .invokeinterface 0 0, .invokeinterface 1 3, .ishl, .iconst 1, .isub, .istore 2, .iload 2, .istore 3, .iload 2, .istore 4, .goto_w 36]),
  (36, [.iload 4, .ifCond .lt 75, .iload 4, .invokestatic 2271, .iload 3, .invokestatic 2271, .if_icmp .gt 69, .aload 0, .iload 2, .iload 4, .iconst (-1), .ixor, .iand, .invokevirtual 351, .ifCond .eq 69, .iload 4, .istore 3, .goto_w 69]),
  (69, [.iinc 4 (-1), .goto 36]),
  (75, [.iload 1, .ifCond .ne 86, .iload 3, .invokestatic 2271, .goto 87]),
  (86, [.iload 3, .goto_w 87]),
  (87, [.ireturn])]
/-- SC.gold -/
def bk_37 : List (Nat × List Instr) := [
  (0, [.aload 0, .iload 2, .invokevirtual 131, .ifCond .eq 20, .iload 1, .i2l, .jsr 0, .jsr 9999, .invokestatic 13, .ifCond .ne 22, .goto_w 20]),
  (20, [.iconst (-1), .ireturn]),
  (22, [.aload 0, .invokeinterface 0 0, .invokevirtual 11730, .istore 3, .iload 3, .ifCond .ne 36, .iconst 0, .ireturn]),
  (36, [.iload 1, .istore 4, .iconst 0, .istore 5, .iload 1, .aload 0, .invokeinterface 0 0, .iload 2, .invokevirtual 11721, .imul, .iload 3, .irem, .istore 6, .iconst 0, .istore 7, .goto_w 59]),
  (59, [.iload 7, .aload 0, .invokeinterface 0 0, .invokeinterface 1 3, .if_icmp .ge 133, .iload 1, .aload 0, .invokeinterface 0 0, .iload 7, .invokevirtual 11721, .imul, .istore 8, .iload 4, .iload 8, .iload 3, .idiv, .isub, .istore 4, .iload 5, .iload 8, .iload 3, .irem, .iload 6, .if_icmp .gt 119, .iload 8, .iload 3, .irem, .iload 6, .if_icmp .ne 123, .iload 7, .iload 2, .if_icmp .ge 123, .goto_w 119]),
  (119, [.iconst 1, .goto 124]),
  (123, [.iconst 0, .goto_w 124]),
  (124, [.iadd, .istore 5, .iinc 7 1, .goto 59]),
  (133, [.iload 1, .aload 0, .invokeinterface 0 0, .iload 2, .invokevirtual 11721, .imul, .iload 3, .idiv, .iload 5, .iload 4, .if_icmp .ge 156, .iconst 1, .goto 157]),
  (156, [.iconst 0, .goto_w 157]),
  (157, [.iadd, .ireturn])]
/-- SC.isRest -/
def bk_38 : List (Nat × List Instr) := [
  (0, [.iconst 0, .istore 3, .goto_w 2]),
  (2, [.iload 3, .iconst 5, .if_icmp .ge 61, .aload 0, .invokeinterface 0 15, .iconst 5, .iload 3, .imul, .iload 2, .iadd, .iaload, .aload 0, .invokeinterface 0 15, .iconst 5, .iload 1, .imul, .iload 2, .iadd, .iaload, .if_icmp .gt 53, .aload 0, .invokeinterface 0 16, .iconst 5, .iload 1, .imul, .iload 3, .iadd, .iaload, .aload 0, .invokeinterface 0 16, .iconst 5, .iload 1, .imul, .iload 2, .iadd, .iaload, .if_icmp .le 55, .goto_w 53]),
  (53, [.iconst 0, .freturn]),
  (55, [.iinc 3 1, .goto 2]),
  (61, [.iconst 1, .freturn])]
/-- SC.rests -/
def bk_39 : List (Nat × List Instr) := [
  (0, [.aload 0, .iload 1, .invokevirtual 131, .ifCond .eq 46, .aload 0, .iload 2, .invokevirtual 131, .ifCond .eq 46, .iload 1, .iload 2, .if_icmp .eq 46, .iload 3, .i2l, .jsr 1, .jsr 20, .invokestatic 13, .ifCond .eq 46, .iload 4, .i2l, .jsr 0, .jsr 2, .invokestatic 13, .ifCond .ne 48, .goto_w 46]),
  (46, [.iconst (-1), .ireturn]),
  (48, [.aload 0, .invokeinterface 0 2, .aload 0, .invokeinterface 0 0, .invokevirtual 11671, .pop, .iconst 0, .istore 5, .goto_w 63]),
  (63, [.iload 5, .iconst 25, .if_icmp .ge 171, .aload 0, .invokeinterface 0 2, .aload 0, .invokeinterface 0 0, .invokevirtual 11681, .pop, .aload 0, .invokeinterface 0 2, .iload 1, .iconst 10, .iload 5, .iconst 5, .idiv, .imul, .invokevirtual 11762, .aload 0, .invokeinterface 0 2, .iload 2, .iconst 10, .iload 5, .iconst 5, .irem, .imul, .invokevirtual 11762, .aload 0, .invokeinterface 0 2, .iload 3, .aload 0, .invokevirtual 110, .invokevirtual 11812, .pop, .aload 0, .invokeinterface 0 15, .iload 5, .aload 0, .invokeinterface 0 2, .iload 1, .invokevirtual 11721, .iload 5, .iconst 5, .idiv, .isub, .iastore, .aload 0, .invokeinterface 0 16, .iload 5, .aload 0, .invokeinterface 0 2, .iload 2, .invokevirtual 11721, .iload 5, .iconst 5, .irem, .isub, .iastore, .iinc 5 1, .goto 63]),
  (171, [.iconst 0, .istore 5, .iconst (-1), .istore 6, .iconst 24, .istore 7, .goto_w 181]),
  (181, [.iload 7, .ifCond .lt 217, .aload 0, .iload 7, .iconst 5, .idiv, .iload 7, .iconst 5, .irem, .invokevirtual 382, .ifCond .ne 204, .goto 211]),
  (204, [.iinc 5 1, .iload 7, .istore 6, .goto_w 211]),
  (211, [.iinc 7 (-1), .goto 181]),
  (217, [.iload 4, .ifCond .ne 225, .iload 5, .ireturn]),
  (225, [.iload 6, .iconst (-1), .if_icmp .ne 236, .iconst (-2), .goto 259]),
  (236, [.iload 4, .iconst 1, .if_icmp .ne 252, .iconst 10, .iload 6, .iconst 5, .idiv, .imul, .goto 259]),
  (252, [.iconst 10, .iload 6, .iconst 5, .irem, .imul, .goto_w 259]),
  (259, [.ireturn])]
/-- SC.areAlike -/
def bk_40 : List (Nat × List Instr) := [
  (0, [.iconst 0, .istore 3, .goto_w 2]),
  (2, [.iload 3, .iconst 6, .if_icmp .ge 35, .aload 0, .invokeinterface 0 17, .iload 1, .iload 3, .iadd, .iaload, .aload 0, .invokeinterface 0 17, .iload 2, .iload 3, .iadd, .iaload, .if_icmp .eq 29, .iconst 0, .freturn]),
  (29, [.iinc 3 1, .goto 2]),
  (35, [.iconst 1, .freturn])]
/-- SC.ring -/
def bk_41 : List (Nat × List Instr) := [
  (0, [.aload 0, .invokeinterface 0 0, .ifnull 17, .iload 1, .i2l, .jsr 0, .jsr 1, .invokestatic 13, .ifCond .ne 19, .goto_w 17]),
  (17, [.iconst (-1), .ireturn]),
  (19, [.aload 0, .invokeinterface 0 2, .aload 0, .invokeinterface 0 0, .invokevirtual 11671, .pop, .iconst 0, .istore 2, .goto_w 33]),
  (33, [.iload 2, .iconst 66, .if_icmp .ge 70, .aload 0, .invokeinterface 0 2, .aload 0, .invokevirtual 110, .invokevirtual 11801, .pop, .aload 0, .invokeinterface 0 17, .iload 2, .aload 0, .invokeinterface 0 2, .invokeinterface 1 8, .iastore, .iinc 2 1, .goto 33]),
  (70, [.iconst 0, .istore 2, .goto_w 72]),
  (72, [.iload 2, .iconst 60, .if_icmp .ge 129, .iload 2, .iconst 1, .iadd, .istore 3, .goto_w 82]),
  (82, [.iload 3, .iconst 60, .if_icmp .gt 123, .aload 0, .iload 2, .iload 3, .invokevirtual 402, .ifCond .eq 117, .iload 1, .ifCond .ne 113, .aload 0, .invokeinterface 0 0, .invokeinterface 1 7, .iload 2, .iadd, .goto 116]),
  (113, [.iload 3, .iload 2, .isub, .goto_w 116]),
  (116, [.ireturn]),
  (117, [.iinc 3 1, .goto 82]),
  (123, [.iinc 2 1, .goto 72]),
  (129, [.iconst (-2), .ireturn])]
/-- SC.note -/
def bk_42 : List (Nat × List Instr) := [
  (0, [.iload 1, .iconst (-1), .if_icmp .ne 22, .aload 0, .invokeinterface 0 0, .ifnull 20, .aload 0, .invokeinterface 0 0, .iconst 0, .multianewarray 1 4, .goto_w 20]),
  (20, [.iconst 0, .ireturn]),
  (22, [.aload 0, .invokeinterface 0 0, .ifnull 66, .iload 1, .i2l, .jsr 0, .jsr 60, .invokestatic 13, .ifCond .eq 66, .iload 2, .iconst (-1), .if_icmp .eq 54, .aload 0, .iload 2, .invokevirtual 121, .ifCond .eq 66, .goto_w 54]),
  (54, [.aload 0, .invokeinterface 0 0, .invokeinterface 1 4, .iconst 10, .if_icmp .ne 69, .goto_w 66]),
  (66, [.iconst (-2), .ireturn]),
  (69, [.aload 0, .invokeinterface 0 0, .invokeinterface 1 16, .iconst 2, .aload 0, .invokeinterface 0 0, .invokeinterface 1 4, .imul, .iload 1, .iastore, .aload 0, .invokeinterface 0 0, .invokeinterface 1 16, .iconst 2, .aload 0, .invokeinterface 0 0, .invokeinterface 1 4, .imul, .iconst 1, .iadd, .iload 2, .iastore, .aload 0, .invokeinterface 0 0, .dup, .invokeinterface 1 4, .iconst 1, .iadd, .multianewarray 1 4, .aload 0, .invokeinterface 0 0, .invokeinterface 1 4, .ireturn])]
/-- SC.heldBy -/
def bk_43 : List (Nat × List Instr) := [
  (0, [.aload 0, .invokeinterface 0 19, .iconst 61, .iload 1, .imul, .iload 2, .iadd, .iaload, .ireturn])]
/-- SC.areNotesSo -/
def bk_44 : List (Nat × List Instr) := [
  (0, [.iconst 0, .istore 2, .goto_w 2]),
  (2, [.iload 2, .iconst 2, .aload 0, .invokeinterface 0 0, .invokeinterface 1 4, .imul, .if_icmp .ge 51, .aload 0, .iload 1, .aload 0, .invokeinterface 0 0, .invokeinterface 1 16, .iload 2, .iaload, .invokevirtual 432, .aload 0, .invokeinterface 0 0, .invokeinterface 1 16, .iload 2, .iconst 1, .iadd, .iaload, .if_icmp .eq 45, .iconst 0, .freturn]),
  (45, [.iinc 2 2, .goto 2]),
  (51, [.iconst 1, .freturn])]
/-- SC.gathersRules -/
def bk_45 : List (Nat × List Instr) := [
  (0, [.aload 0, .invokeinterface 0 2, .aload 0, .invokeinterface 0 0, .invokevirtual 11671, .pop, .iconst 0, .istore 1, .goto_w 14]),
  (14, [.iload 1, .aload 0, .invokeinterface 0 14, .if_icmp .gt 102, .aload 0, .invokeinterface 0 2, .invokevirtual 11710, .iconst 0, .istore 2, .goto_w 31]),
  (31, [.iload 2, .iconst 60, .if_icmp .gt 85, .aload 0, .invokeinterface 0 2, .iload 1, .ifCond .ne 49, .aconst_null, .goto 57]),
  (49, [.aload 0, .invokeinterface 0 13, .iload 1, .iconst 1, .isub, .aaload, .goto_w 57]),
  (57, [.invokevirtual 11801, .pop, .aload 0, .invokeinterface 0 19, .iconst 61, .iload 1, .imul, .iload 2, .iadd, .aload 0, .invokeinterface 0 2, .invokeinterface 1 8, .iastore, .iinc 2 1, .goto 31]),
  (85, [.aload 0, .invokeinterface 0 18, .iload 1, .aload 0, .iload 1, .invokevirtual 441, .bastore, .iinc 1 1, .goto 14]),
  (102, [.return_])]
/-- SC.ruled -/
def bk_46 : List (Nat × List Instr) := [
  (0, [.aload 0, .invokeinterface 0 0, .ifnull 17, .iload 1, .i2l, .jsr 0, .jsr 1, .invokestatic 13, .ifCond .ne 20, .goto_w 17]),
  (17, [.iconst (-3), .ireturn]),
  (20, [.aload 0, .invokevirtual 450, .iconst 0, .istore 2, .iconst (-2), .istore 3, .aload 0, .invokeinterface 0 14, .istore 4, .goto_w 35]),
  (35, [.iload 4, .ifCond .lt 67, .aload 0, .invokeinterface 0 18, .iload 4, .baload, .ifCond .ne 53, .goto 61]),
  (53, [.iinc 2 1, .iload 4, .iconst 1, .isub, .istore 3, .goto_w 61]),
  (61, [.iinc 4 (-1), .goto 35]),
  (67, [.iload 1, .ifCond .ne 75, .iload 2, .goto 76]),
  (75, [.iload 3, .goto_w 76]),
  (76, [.ireturn])]
/-- SC.alikeIn -/
def bk_47 : List (Nat × List Instr) := [
  (0, [.iconst 0, .istore 2, .iconst (-1), .istore 3, .goto_w 4]),
  (4, [.iload 3, .aload 0, .invokeinterface 0 0, .invokeinterface 1 2, .if_icmp .ge 80, .iconst 0, .istore 4, .iconst 0, .istore 5, .goto_w 21]),
  (21, [.iload 5, .aload 0, .invokeinterface 0 14, .if_icmp .gt 67, .iload 4, .aload 0, .invokeinterface 0 18, .iload 5, .baload, .ifCond .eq 57, .aload 0, .iload 5, .iload 1, .invokevirtual 432, .iload 3, .if_icmp .ne 57, .iconst 1, .goto 58]),
  (57, [.iconst 0, .goto_w 58]),
  (58, [.iadd, .istore 4, .iinc 5 1, .goto 21]),
  (67, [.iload 2, .iload 4, .swap, .istore 2, .iinc 3 1, .goto 4]),
  (80, [.iload 2, .ireturn])]
/-- SC.look -/
def bk_48 : List (Nat × List Instr) := [
  (0, [.aload 0, .invokeinterface 0 0, .ifnull 17, .iload 1, .i2l, .jsr 0, .jsr 1, .invokestatic 13, .ifCond .ne 19, .goto_w 17]),
  (17, [.iconst (-1), .ireturn]),
  (19, [.aload 0, .invokevirtual 450, .iconst 0, .istore 2, .iconst 1, .istore 3, .goto_w 27]),
  (27, [.iload 3, .iconst 60, .if_icmp .gt 54, .aload 0, .iload 3, .invokevirtual 471, .aload 0, .iload 2, .invokevirtual 471, .if_icmp .ge 48, .iload 3, .istore 2, .goto_w 48]),
  (48, [.iinc 3 1, .goto 27]),
  (54, [.aload 0, .iload 2, .invokevirtual 471, .ifCond .ne 67, .iconst (-2), .goto 80]),
  (67, [.iload 1, .ifCond .ne 75, .iload 2, .goto 80]),
  (75, [.aload 0, .iload 2, .invokevirtual 471, .goto_w 80]),
  (80, [.ireturn])]
/-- SC.seed -/
def bk_49 : List (Nat × List Instr) := [
  (0, [.iload 1, .ifCond .ge 6, .iconst (-1), .ireturn]),
  (6, [.aload 0, .invokeinterface 0 5, .istore 2, .aload 0, .iload 1, .multianewarray 0 5, .iload 2, .ireturn])]
/-- SC.draw -/
def bk_50 : List (Nat × List Instr) := [
  (0, [.aload 0, .aload 0, .invokeinterface 0 20, .i2l, .jsr 1103515245, .lmul, .jsr 12345, .ladd, .jsr 2147483648, .lrem, .l2i, .multianewarray 0 20, .aload 0, .invokeinterface 0 20, .iconst 65536, .idiv, .iload 1, .irem, .ireturn])]
/-- SC.dubsByDraw -/
def bk_51 : List (Nat × List Instr) := [
  (0, [.aload 0, .iconst 100, .invokevirtual 501, .iload 1, .if_icmp .ge 24, .aload 0, .invokeinterface 0 0, .invokeinterface 1 2, .ifCond .le 24, .iconst 1, .goto 25]),
  (24, [.iconst 0, .goto_w 25]),
  (25, [.istore 2, .iload 2, .ifCond .eq 48, .aload 0, .invokeinterface 0 2, .aload 0, .aload 0, .invokeinterface 0 0, .invokeinterface 1 2, .invokevirtual 501, .multianewarray 1 9, .goto_w 48]),
  (48, [.aload 0, .invokeinterface 0 2, .aload 0, .invokevirtual 110, .invokevirtual 11801, .istore 3, .aload 0, .invokeinterface 0 2, .invokeinterface 1 8, .iconst (-1), .if_icmp .ne 75, .iconst 0, .goto 79]),
  (75, [.iload 3, .invokestatic 2271, .goto_w 79]),
  (79, [.ireturn])]
/-- SC.years -/
def bk_52 : List (Nat × List Instr) := [
  (0, [.aload 0, .invokeinterface 0 0, .ifnull 54, .iload 1, .i2l, .jsr 1, .jsr 10, .invokestatic 13, .ifCond .eq 54, .iload 2, .i2l, .jsr 1, .jsr 60, .invokestatic 13, .ifCond .eq 54, .iload 3, .i2l, .jsr 0, .jsr 100, .invokestatic 13, .ifCond .eq 54, .iload 4, .i2l, .jsr 0, .jsr 1, .invokestatic 13, .ifCond .ne 56, .goto_w 54]),
  (54, [.iconst (-1), .ireturn]),
  (56, [.aload 0, .aload 0, .invokeinterface 0 5, .multianewarray 0 20, .iconst 0, .istore 5, .iconst 0, .istore 6, .aload 0, .invokeinterface 0 2, .aload 0, .invokeinterface 0 0, .invokevirtual 11671, .pop, .iconst 0, .istore 7, .goto_w 85]),
  (85, [.iload 7, .iload 1, .if_icmp .ge 146, .aload 0, .invokeinterface 0 2, .aload 0, .invokeinterface 0 0, .invokevirtual 11681, .pop, .iconst 0, .istore 8, .goto_w 106]),
  (106, [.iload 8, .iload 2, .if_icmp .ge 128, .iload 5, .aload 0, .iload 3, .invokevirtual 511, .iadd, .istore 5, .iinc 8 1, .goto 106]),
  (128, [.iload 6, .aload 0, .invokeinterface 0 2, .invokevirtual 11730, .iadd, .istore 6, .iinc 7 1, .goto 85]),
  (146, [.iload 4, .ifCond .ne 156, .iload 5, .goto 158]),
  (156, [.iload 6, .goto_w 158]),
  (158, [.ireturn])]
/-- SC.count -/
def bk_53 : List (Nat × List Instr) := [
  (0, [.iload 1, .lookupswitch 64 #[(4, 44), (5, 49), (13, 54), (14, 59)]]),
  (44, [.aload 0, .invokeinterface 0 14, .ireturn]),
  (49, [.aload 0, .invokeinterface 0 6, .ireturn]),
  (54, [.aload 0, .invokeinterface 0 5, .ireturn]),
  (59, [.aload 0, .invokeinterface 0 9, .ireturn]),
  (64, [.iload 1, .i2l, .jsr 0, .jsr 14, .invokestatic 13, .ifCond .ne 78, .iconst (-1), .ireturn]),
  (78, [.aload 0, .invokeinterface 0 0, .ifnonnull 103, .iload 1, .iconst 7, .if_icmp .eq 97, .iload 1, .iconst 8, .if_icmp .ne 101, .goto_w 97]),
  (97, [.iconst (-1), .goto 102]),
  (101, [.iconst 0, .goto_w 102]),
  (102, [.ireturn]),
  (103, [.iload 1, .tableswitch 248 0 11 #[168, 176, 184, 192, 248, 248, 200, 208, 216, 224, 232, 240]]),
  (168, [.aload 0, .invokeinterface 0 0, .invokeinterface 1 0, .ireturn]),
  (176, [.aload 0, .invokeinterface 0 0, .invokeinterface 1 1, .ireturn]),
  (184, [.aload 0, .invokeinterface 0 0, .invokeinterface 1 2, .ireturn]),
  (192, [.aload 0, .invokeinterface 0 0, .invokeinterface 1 3, .ireturn]),
  (200, [.aload 0, .invokeinterface 0 0, .invokeinterface 1 7, .ireturn]),
  (208, [.aload 0, .invokeinterface 0 0, .invokeinterface 1 8, .ireturn]),
  (216, [.aload 0, .invokeinterface 0 0, .invokeinterface 1 9, .ireturn]),
  (224, [.aload 0, .invokeinterface 0 0, .invokeinterface 1 10, .ireturn]),
  (232, [.aload 0, .invokeinterface 0 0, .invokevirtual 11750, .ireturn]),
  (240, [.aload 0, .invokeinterface 0 0, .invokeinterface 1 4, .ireturn]),
  (248, [.aload 0, .invokeinterface 0 0, .invokeinterface 1 5, .ireturn])]
/-- SC.image -/
def bk_54 : List (Nat × List Instr) := [
  (0, [.iload 1, .i2l, .jsr 0, .jsr 3, .invokestatic 13, .ifCond .ne 14, .iconst (-1), .ireturn]),
  (14, [.aload 0, .invokeinterface 0 21, .iload 1, .aaload, .ifnonnull 36, .aload 0, .invokeinterface 0 21, .iload 1, .new 15, .dup, .invokespecial 1830, .aastore, .goto_w 36]),
  (36, [.aload 0, .invokeinterface 0 21, .iload 1, .aaload, .astore 2, .aload 2, .aload 0, .invokeinterface 0 0, .ifnull 55, .iconst 1, .goto 56]),
  (55, [.iconst 0, .goto_w 56]),
  (56, [.multianewarray 15 301, .aload 2, .aload 0, .invokeinterface 0 5, .multianewarray 15 2, .aload 2, .aload 0, .invokeinterface 0 6, .multianewarray 15 3, .aload 0, .invokeinterface 0 0, .ifnonnull 84, .iconst 0, .ireturn]),
  (84, [.aload 2, .invokeinterface 15 0, .aload 0, .invokeinterface 0 0, .invokevirtual 11671, .pop, .aload 0, .invokeinterface 0 0, .invokeinterface 1 7, .ireturn])]
/-- SC.back -/
def bk_55 : List (Nat × List Instr) := [
  (0, [.iload 1, .i2l, .jsr 0, .jsr 3, .invokestatic 13, .ifCond .eq 21, .aload 0, .invokeinterface 0 21, .iload 1, .aaload, .ifnonnull 23, .goto_w 21]),
  (21, [.iconst (-1), .ireturn]),
  (23, [.aload 0, .aload 0, .invokeinterface 0 21, .iload 1, .aaload, .invokeinterface 15 1, .ifCond .eq 55, .aload 0, .invokeinterface 0 1, .aload 0, .invokeinterface 0 21, .iload 1, .aaload, .invokeinterface 15 0, .invokevirtual 11671, .goto 56]),
  (55, [.aconst_null, .goto_w 56]),
  (56, [.multianewarray 0 200, .aload 0, .aload 0, .invokeinterface 0 21, .iload 1, .aaload, .invokeinterface 15 2, .multianewarray 0 5, .aload 0, .aload 0, .invokeinterface 0 21, .iload 1, .aaload, .invokeinterface 15 3, .multianewarray 0 6, .aload 0, .invokeinterface 0 0, .ifnonnull 96, .iconst 0, .goto 103]),
  (96, [.aload 0, .invokeinterface 0 0, .invokeinterface 1 7, .goto_w 103]),
  (103, [.ireturn])]
/-- M.init -/
def bk_56 : List (Nat × List Instr) := [
  (0, [.aload 0, .monitorenter, .aload 0, .iconst 11, .newarray .int, .dup, .iconst 0, .iconst 0, .iastore, .dup, .iconst 1, .iconst 0, .iastore, .dup, .iconst 2, .iconst 0, .iastore, .dup, .iconst 3, .iconst 0, .iastore, .dup, .iconst 4, .iconst 0, .iastore, .dup, .iconst 5, .iconst (-1), .iastore, .dup, .iconst 6, .iconst (-1), .iastore, .dup, .iconst 7, .iconst 0, .iastore, .dup, .iconst 8, .iconst 0, .iastore, .dup, .iconst 9, .iconst 0, .iastore, .dup, .iconst 10, .iconst (-1), .iastore, .multianewarray 3 201, .aload 0, .iconst 6, .newarray .int, .multianewarray 3 202, .aload 0, .iconst 6, .newarray .int, .multianewarray 3 203, .aload 0, .iconst 6, .newarray .int, .multianewarray 3 204, .aload 0, .iconst 12, .newarray .int, .multianewarray 3 205, .aload 0, .iconst 6, .newarray .int, .multianewarray 3 206, .aload 0, .iconst 6, .newarray .int, .multianewarray 3 207, .aload 0, .iconst 6, .newarray .int, .multianewarray 3 208, .aload 0, .iconst 6, .newarray .int, .multianewarray 3 209, .aload 0, .iconst 10, .newarray .int, .multianewarray 3 210, .aload 0, .iconst 10, .newarray .int, .multianewarray 3 211, .aload 0, .iconst 6, .newarray .int, .multianewarray 3 212, .aload 0, .iconst 4, .newarray .int, .multianewarray 3 213, .aload 0, .iconst 6, .newarray .int, .multianewarray 3 214, .aload 0, .iconst 6, .newarray .int, .multianewarray 3 215, .aload 0, .iconst 12, .newarray .int, .multianewarray 3 216, .aload 0, .iconst 6, .newarray .int, .multianewarray 3 217, .aload 0, .iconst 6, .newarray .int, .multianewarray 3 218, .aload 0, .iconst 12, .multianewarray 3 28, .aload 0, .iconst 400, .newarray .byte, .multianewarray 3 229, .aload 0, .iconst 1800, .newarray .int, .multianewarray 3 230, .aload 0, .iconst 1800, .newarray .int, .multianewarray 3 231, .aload 0, .iconst 6, .newarray .int, .multianewarray 3 232, .aload 0, .iconst 72, .newarray .int, .multianewarray 3 233, .aload 0, .iconst 72, .newarray .int, .multianewarray 3 234, .aload 0, .iconst 72, .newarray .int, .multianewarray 3 235, .aload 0, .iconst 402, .newarray .int, .multianewarray 3 236, .aload 0, .iconst 12, .newarray .long, .multianewarray 3 237, .aload 0, .iconst 300, .newarray .long, .multianewarray 3 238, .aload 0, .iconst 560, .newarray .int, .multianewarray 3 239, .aload 0, .iconst 1, .newarray .int, .multianewarray 3 240, .aload 0, .iconst 6, .newarray .int, .multianewarray 3 244, .aload 0, .iconst 25, .newarray .int, .multianewarray 3 245, .aload 0, .iconst 25, .newarray .int, .multianewarray 3 246, .aload 0, .iconst 66, .newarray .int, .multianewarray 3 247, .aload 0, .iconst 427, .newarray .int, .multianewarray 3 248, .aload 0, .iconst 3500, .newarray .int, .multianewarray 3 249, .aload 0, .iconst 4, .newarray .boolean, .multianewarray 3 250, .return_])]
/-- M.in -/
def bk_57 : List (Nat × List Instr) := [
  (0, [.lload 0, .lload 2, .lcmp, .ifCond .lt 17, .lload 0, .lload 4, .lcmp, .ifCond .gt 17, .iconst 1, .goto 18]),
  (17, [.iconst 0, .goto_w 18]),
  (18, [.freturn])]
/-- M.bits -/
def bk_58 : List (Nat × List Instr) := [
  (0, [.iconst 0, .istore 1, .iconst 0, .istore 2, .goto_w 4]),
  (4, [.iload 2, .iconst 16, .if_icmp .ge 24, .iload 1, .iload 0, .iload 2, .ishr, .iconst 1, .iand, .iadd, .istore 1, .iinc 2 1, .goto 4]),
  (24, [.iload 1, .ireturn])]
/-- M.has -/
def bk_59 : List (Nat × List Instr) := [
  (0, [.iload 0, .iload 1, .ishr, .iconst 1, .iand, .iconst 1, .if_icmp .ne 13, .iconst 1, .goto 14]),
  (13, [.iconst 0, .goto_w 14]),
  (14, [.freturn])]
/-- M.isCourt -/
def bk_60 : List (Nat × List Instr) := [
  (0, [.aload 0, .invokeinterface 3 1, .iconst 0, .iaload, .ifCond .le 13, .iconst 1, .goto 14]),
  (13, [.iconst 0, .goto_w 14]),
  (14, [.freturn])]
/-- M.isThing -/
def bk_61 : List (Nat × List Instr) := [
  (0, [.iload 1, .i2l, .jsr 0, .aload 0, .invokeinterface 3 1, .iconst 2, .iaload, .iconst 1, .isub, .i2l, .invokestatic 573, .freturn])]
/-- M.isPerson -/
def bk_62 : List (Nat × List Instr) := [
  (0, [.iload 1, .i2l, .jsr 0, .aload 0, .invokeinterface 3 1, .iconst 3, .iaload, .iconst 1, .isub, .i2l, .invokestatic 573, .freturn])]
/-- M.feed -/
def bk_63 : List (Nat × List Instr) := [
  (0, [.aload 0, .invokeinterface 3 19, .iconst 20, .iadd, .iconst 400, .if_icmp .le 15, .iconst (-1), .ireturn]),
  (15, [.aload 0, .iload 1, .invokevirtual 30641, .aload 0, .iload 2, .invokevirtual 30641, .aload 0, .iload 3, .invokevirtual 30641, .aload 0, .iload 4, .invokevirtual 30641, .aload 0, .iload 5, .invokevirtual 30641, .aload 0, .invokeinterface 3 19, .ireturn])]
/-- M.put -/
def bk_64 : List (Nat × List Instr) := [
  (0, [.iconst 24, .istore 2, .goto_w 3]),
  (3, [.iload 2, .ifCond .lt 36, .aload 0, .invokeinterface 3 29, .aload 0, .invokeinterface 3 19, .iload 1, .iload 2, .ishr, .i2b, .bastore, .aload 0, .dup, .invokeinterface 3 19, .iconst 1, .iadd, .multianewarray 3 19, .iinc 2 (-8), .goto 3]),
  (36, [.return_])]
/-- M.end -/
def bk_65 : List (Nat × List Instr) := [
  (0, [.iload 1, .ifCond .lt 12, .iload 1, .aload 0, .invokeinterface 3 19, .if_icmp .le 14, .goto_w 12]),
  (12, [.iconst (-1), .ireturn]),
  (14, [.aload 0, .iload 1, .multianewarray 3 19, .iload 1, .ireturn])]
/-- M.wordOf -/
def bk_66 : List (Nat × List Instr) := [
  (0, [.iload 0, .tableswitch 93 0 10 #[60, 63, 66, 69, 72, 75, 78, 81, 84, 87, 90]]),
  (60, [.ldc 2, .areturn]),
  (63, [.ldc 7, .areturn]),
  (66, [.ldc 8, .areturn]),
  (69, [.ldc 9, .areturn]),
  (72, [.ldc 10, .areturn]),
  (75, [.ldc 11, .areturn]),
  (78, [.ldc 12, .areturn]),
  (81, [.ldc 13, .areturn]),
  (84, [.ldc 14, .areturn]),
  (87, [.ldc 15, .areturn]),
  (90, [.ldc 16, .areturn]),
  (93, [.ldc 17, .areturn])]
/-- M.fails -/
def bk_67 : List (Nat × List Instr) := [
  (0, [.aload 0, .aload 0, .invokeinterface 3 21, .ifCond .ne 19, .iconst 1, .iconst 8, .iload 2, .imul, .iadd, .iload 1, .iadd, .goto 23]),
  (19, [.aload 0, .invokeinterface 3 21, .goto_w 23]),
  (23, [.multianewarray 3 21, .return_])]
/-- M.sign -/
def bk_68 : List (Nat × List Instr) := [
  (0, [.aload 0, .invokeinterface 3 20, .aload 0, .invokeinterface 3 19, .if_icmp .ge 27, .aload 0, .invokeinterface 3 29, .aload 0, .invokeinterface 3 20, .baload, .iconst 255, .iand, .goto 28]),
  (27, [.iconst (-1), .goto_w 28]),
  (28, [.ireturn])]
/-- M.blanks -/
def bk_69 : List (Nat × List Instr) := [
  (0, [.aload 0, .invokevirtual 30680, .iconst 32, .if_icmp .ne 22, .aload 0, .dup, .invokeinterface 3 20, .iconst 1, .iadd, .multianewarray 3 20, .goto 0]),
  (22, [.return_])]
/-- M.isDigit -/
def bk_70 : List (Nat × List Instr) := [
  (0, [.aload 0, .invokevirtual 30680, .i2l, .jsr 48, .jsr 57, .invokestatic 573, .freturn])]
/-- M.stood -/
def bk_71 : List (Nat × List Instr) := [
  (0, [.aload 0, .invokeinterface 3 20, .istore 2, .goto_w 5]),
  (5, [.iload 2, .aload 0, .invokeinterface 3 19, .if_icmp .ge 41, .aload 0, .invokeinterface 3 29, .iload 2, .baload, .iconst 97, .if_icmp .lt 41, .aload 0, .invokeinterface 3 29, .iload 2, .baload, .iconst 122, .if_icmp .gt 41, .iinc 2 1, .goto 5]),
  (41, [.iload 2, .aload 0, .invokeinterface 3 20, .isub, .aload 1, .invokevirtual 192330, .if_icmp .ne 58, .iconst 1, .goto 59]),
  (58, [.iconst 0, .goto_w 59]),
  (59, [.istore 3, .iconst 0, .istore 4, .goto_w 63]),
  (63, [.iload 4, .aload 1, .invokevirtual 192330, .if_icmp .ge 109, .iload 3, .ifCond .eq 109, .aload 0, .invokeinterface 3 29, .aload 0, .invokeinterface 3 20, .iload 4, .iadd, .baload, .aload 1, .iload 4, .invokevirtual 192291, .if_icmp .ne 101, .iconst 1, .goto 102]),
  (101, [.iconst 0, .goto_w 102]),
  (102, [.istore 3, .iinc 4 1, .goto 63]),
  (109, [.iload 3, .freturn])]
/-- M.takes -/
def bk_72 : List (Nat × List Instr) := [
  (0, [.aload 0, .invokevirtual 30690, .aload 0, .aload 1, .invokevirtual 30711, .istore 2, .aload 0, .dup, .invokeinterface 3 20, .iload 2, .ifCond .eq 26, .aload 1, .invokevirtual 192330, .goto 27]),
  (26, [.iconst 0, .goto_w 27]),
  (27, [.iadd, .multianewarray 3 20, .iload 2, .freturn])]
/-- M.entry -/
def bk_73 : List (Nat × List Instr) := [
  (0, [.aload 0, .invokeinterface 3 21, .ifCond .ne 55, .aload 0, .invokeinterface 3 30, .iconst 300, .aload 0, .invokeinterface 3 22, .imul, .aload 0, .invokeinterface 3 24, .iadd, .iload 1, .iastore, .aload 0, .invokeinterface 3 31, .iconst 300, .aload 0, .invokeinterface 3 22, .imul, .aload 0, .invokeinterface 3 24, .iadd, .iload 2, .iastore, .aload 0, .dup, .invokeinterface 3 24, .iconst 1, .iadd, .multianewarray 3 24, .goto_w 55]),
  (55, [.return_])]
/-- M.isCounted -/
def bk_74 : List (Nat × List Instr) := [
  (0, [.aload 0, .invokeinterface 3 26, .iconst 60, .if_icmp .ne 15, .aload 0, .iconst 3, .iload 1, .invokevirtual 30672, .goto_w 15]),
  (15, [.aload 0, .dup, .invokeinterface 3 26, .iconst 1, .iadd, .multianewarray 3 26, .return_])]
/-- M.digits -/
def bk_75 : List (Nat × List Instr) := [
  (0, [.aload 0, .invokevirtual 30700, .ifCond .ne 18, .aload 0, .iconst 0, .aload 0, .invokeinterface 3 20, .invokevirtual 30672, .iconst 0, .ireturn]),
  (18, [.aload 0, .invokeinterface 3 20, .istore 2, .iconst 0, .istore 3, .goto_w 25]),
  (25, [.aload 0, .invokevirtual 30700, .ifCond .eq 72, .aload 0, .invokeinterface 3 20, .iload 2, .isub, .iconst 5, .if_icmp .ge 57, .iconst 10, .iload 3, .imul, .aload 0, .invokevirtual 30680, .iadd, .iconst 48, .isub, .goto 58]),
  (57, [.iload 3, .goto_w 58]),
  (58, [.istore 3, .aload 0, .dup, .invokeinterface 3 20, .iconst 1, .iadd, .multianewarray 3 20, .goto 25]),
  (72, [.aload 0, .invokeinterface 3 20, .iload 2, .isub, .iconst 5, .if_icmp .gt 87, .iload 3, .iload 1, .if_icmp .le 93, .goto_w 87]),
  (87, [.aload 0, .iconst 1, .iload 2, .invokevirtual 30672, .goto_w 93]),
  (93, [.iload 3, .ireturn])]
/-- M.value -/
def bk_76 : List (Nat × List Instr) := [
  (0, [.aload 0, .invokevirtual 30690, .aload 0, .invokeinterface 3 20, .istore 1, .aload 0, .invokevirtual 30700, .ifCond .eq 35, .aload 0, .iconst 99999, .invokevirtual 30751, .istore 2, .aload 0, .iload 1, .invokevirtual 30741, .aload 0, .iconst 0, .iload 2, .invokevirtual 30732, .return_]),
  (35, [.iconst 0, .istore 2, .goto_w 37]),
  (37, [.iload 2, .aload 0, .invokeinterface 3 28, .if_icmp .ge 62, .aload 0, .iload 2, .invokestatic 661, .invokevirtual 30711, .ifCond .ne 62, .iinc 2 1, .goto 37]),
  (62, [.iload 2, .aload 0, .invokeinterface 3 28, .if_icmp .ne 77, .aload 0, .iconst 0, .iload 1, .invokevirtual 30672, .return_]),
  (77, [.aload 0, .iload 1, .invokevirtual 30741, .aload 0, .dup, .invokeinterface 3 20, .iload 2, .invokestatic 661, .invokevirtual 192330, .iadd, .multianewarray 3 20, .aload 0, .iconst 1, .iload 2, .invokevirtual 30732, .return_])]
/-- M.term -/
def bk_77 : List (Nat × List Instr) := [
  (0, [.aload 0, .invokevirtual 30760, .aload 0, .invokevirtual 30690, .goto_w 8]),
  (8, [.aload 0, .invokeinterface 3 21, .ifCond .ne 100, .aload 0, .invokevirtual 30680, .iconst 42, .if_icmp .eq 42, .aload 0, .invokevirtual 30680, .iconst 47, .if_icmp .eq 42, .aload 0, .invokevirtual 30680, .iconst 37, .if_icmp .ne 100, .goto_w 42]),
  (42, [.aload 0, .invokevirtual 30680, .iconst 42, .if_icmp .ne 56, .iconst 13, .goto 72]),
  (56, [.aload 0, .invokevirtual 30680, .iconst 47, .if_icmp .ne 70, .iconst 14, .goto 72]),
  (70, [.iconst 15, .goto_w 72]),
  (72, [.istore 1, .aload 0, .dup, .invokeinterface 3 20, .iconst 1, .iadd, .multianewarray 3 20, .aload 0, .invokevirtual 30760, .aload 0, .iload 1, .iconst 0, .invokevirtual 30732, .aload 0, .invokevirtual 30690, .goto 8]),
  (100, [.return_])]
/-- M.sum -/
def bk_78 : List (Nat × List Instr) := [
  (0, [.aload 0, .invokevirtual 30770, .goto_w 4]),
  (4, [.aload 0, .invokeinterface 3 21, .ifCond .ne 67, .aload 0, .invokevirtual 30680, .iconst 43, .if_icmp .eq 29, .aload 0, .invokevirtual 30680, .iconst 45, .if_icmp .ne 67, .goto_w 29]),
  (29, [.aload 0, .invokevirtual 30680, .iconst 43, .if_icmp .ne 42, .iconst 2, .goto 43]),
  (42, [.iconst 3, .goto_w 43]),
  (43, [.istore 1, .aload 0, .dup, .invokeinterface 3 20, .iconst 1, .iadd, .multianewarray 3 20, .aload 0, .invokevirtual 30770, .aload 0, .iload 1, .iconst 0, .invokevirtual 30732, .goto 4]),
  (67, [.return_])]
/-- M.compared -/
def bk_79 : List (Nat × List Instr) := [
  (0, [.aload 0, .invokevirtual 30780, .aload 0, .invokevirtual 30680, .istore 1, .iload 1, .iconst 60, .if_icmp .eq 37, .iload 1, .iconst 61, .if_icmp .eq 37, .iload 1, .iconst 62, .if_icmp .eq 37, .aload 0, .iconst 0, .aload 0, .invokeinterface 3 20, .invokevirtual 30672, .return_]),
  (37, [.aload 0, .aload 0, .invokeinterface 3 20, .invokevirtual 30741, .aload 0, .dup, .invokeinterface 3 20, .iconst 1, .iadd, .multianewarray 3 20, .iload 1, .iconst 61, .if_icmp .eq 74, .aload 0, .invokevirtual 30680, .iconst 61, .if_icmp .ne 74, .iconst 1, .goto 75]),
  (74, [.iconst 0, .goto_w 75]),
  (75, [.istore 2, .aload 0, .dup, .invokeinterface 3 20, .iload 2, .ifCond .eq 89, .iconst 1, .goto 90]),
  (89, [.iconst 0, .goto_w 90]),
  (90, [.iadd, .multianewarray 3 20, .aload 0, .invokevirtual 30780, .aload 0, .iload 1, .iconst 61, .if_icmp .ne 110, .iconst 6, .goto 139]),
  (110, [.iload 1, .iconst 60, .if_icmp .ne 128, .iload 2, .ifCond .eq 124, .iconst 5, .goto 139]),
  (124, [.iconst 4, .goto 139]),
  (128, [.iload 2, .ifCond .eq 137, .iconst 7, .goto 139]),
  (137, [.iconst 8, .goto_w 139]),
  (139, [.iconst 0, .invokevirtual 30732, .return_])]
/-- M.top -/
def bk_80 : List (Nat × List Instr) := [
  (0, [.aload 0, .invokeinterface 3 27, .ifCond .ne 11, .iconst (-1), .goto 22]),
  (11, [.aload 0, .invokeinterface 3 36, .aload 0, .invokeinterface 3 27, .iconst 1, .isub, .iaload, .goto_w 22]),
  (22, [.ireturn])]
/-- M.opens -/
def bk_81 : List (Nat × List Instr) := [
  (0, [.iload 1, .iconst 9, .if_icmp .eq 12, .iload 1, .iconst 12, .if_icmp .ne 40, .goto_w 12]),
  (12, [.aload 0, .invokeinterface 3 25, .iconst 10, .if_icmp .ne 30, .aload 0, .iconst 2, .aload 0, .invokeinterface 3 20, .invokevirtual 30672, .goto_w 30]),
  (30, [.aload 0, .dup, .invokeinterface 3 25, .iconst 1, .iadd, .multianewarray 3 25, .goto_w 40]),
  (40, [.aload 0, .invokeinterface 3 36, .aload 0, .invokeinterface 3 27, .iload 1, .iastore, .aload 0, .dup, .invokeinterface 3 27, .iconst 1, .iadd, .multianewarray 3 27, .return_])]
/-- M.answers -/
def bk_82 : List (Nat × List Instr) := [
  (0, [.aload 0, .invokevirtual 30800, .iload 1, .if_icmp .ne 54, .aload 0, .invokeinterface 3 21, .ifCond .ne 54, .aload 0, .iload 1, .iconst 0, .invokevirtual 30732, .aload 0, .dup, .invokeinterface 3 27, .iconst 1, .isub, .multianewarray 3 27, .aload 0, .dup, .invokeinterface 3 25, .iload 1, .iconst 9, .if_icmp .ne 46, .iconst 1, .goto 47]),
  (46, [.iconst 0, .goto_w 47]),
  (47, [.isub, .multianewarray 3 25, .goto 0]),
  (54, [.return_])]
/-- M.fact -/
def bk_83 : List (Nat × List Instr) := [
  (0, [.aload 0, .invokevirtual 30690, .aload 0, .ldc 19, .invokevirtual 30711, .ifCond .eq 31, .aload 0, .iconst 9, .invokevirtual 30811, .aload 0, .dup, .invokeinterface 3 20, .iconst 3, .iadd, .multianewarray 3 20, .iconst 0, .freturn]),
  (31, [.aload 0, .invokevirtual 30680, .iconst 91, .if_icmp .ne 58, .aload 0, .iconst 12, .invokevirtual 30811, .aload 0, .dup, .invokeinterface 3 20, .iconst 1, .iadd, .multianewarray 3 20, .iconst 0, .freturn]),
  (58, [.aload 0, .invokevirtual 30790, .iconst 1, .freturn])]
/-- M.test -/
def bk_84 : List (Nat × List Instr) := [
  (0, [.aload 0, .iconst 0, .multianewarray 3 27, .iconst 1, .istore 1, .iconst 1, .istore 2, .goto_w 9]),
  (9, [.iload 2, .ifCond .eq 202, .aload 0, .invokeinterface 3 21, .ifCond .ne 202, .iload 1, .ifCond .eq 40, .aload 0, .invokevirtual 30830, .ifCond .ne 35, .iconst 1, .goto 36]),
  (35, [.iconst 0, .goto_w 36]),
  (36, [.istore 1, .goto 9]),
  (40, [.aload 0, .iconst 9, .invokevirtual 30821, .aload 0, .invokevirtual 30690, .aload 0, .ldc 20, .invokevirtual 30711, .istore 3, .aload 0, .ldc 21, .invokevirtual 30711, .istore 4, .aload 0, .iconst 10, .invokevirtual 30821, .iload 3, .ifCond .ne 82, .iload 4, .ifCond .eq 131, .goto_w 82]),
  (82, [.iload 4, .ifCond .eq 93, .aload 0, .iconst 11, .invokevirtual 30821, .goto_w 93]),
  (93, [.aload 0, .iload 3, .ifCond .eq 103, .iconst 10, .goto 105]),
  (103, [.iconst 11, .goto_w 105]),
  (105, [.invokevirtual 30811, .aload 0, .dup, .invokeinterface 3 20, .iload 3, .ifCond .eq 121, .iconst 3, .goto 122]),
  (121, [.iconst 2, .goto_w 122]),
  (122, [.iadd, .multianewarray 3 20, .iconst 1, .istore 1, .goto 199]),
  (131, [.aload 0, .iconst 11, .invokevirtual 30821, .aload 0, .invokevirtual 30800, .iconst 12, .if_icmp .ne 197, .aload 0, .invokevirtual 30680, .iconst 93, .if_icmp .eq 164, .aload 0, .iconst 0, .aload 0, .invokeinterface 3 20, .invokevirtual 30672, .goto_w 164]),
  (164, [.aload 0, .dup, .invokeinterface 3 20, .iconst 1, .iadd, .multianewarray 3 20, .aload 0, .dup, .invokeinterface 3 27, .iconst 1, .isub, .multianewarray 3 27, .aload 0, .dup, .invokeinterface 3 25, .iconst 1, .isub, .multianewarray 3 25, .goto 199]),
  (197, [.iconst 0, .istore 2, .goto_w 199]),
  (199, [.goto 9]),
  (202, [.return_])]
/-- M.amount -/
def bk_85 : List (Nat × List Instr) := [
  (0, [.aload 0, .invokevirtual 30690, .aload 0, .invokeinterface 3 20, .istore 3, .aload 0, .invokeinterface 3 21, .ifCond .ne 25, .aload 0, .iconst 99999, .invokevirtual 30751, .goto 26]),
  (25, [.iconst 0, .goto_w 26]),
  (26, [.istore 4, .aload 0, .invokeinterface 3 21, .ifCond .ne 54, .iload 4, .i2l, .iload 1, .i2l, .iload 2, .i2l, .invokestatic 573, .ifCond .ne 54, .aload 0, .iconst 1, .iload 3, .invokevirtual 30672, .goto_w 54]),
  (54, [.iload 4, .ireturn])]
/-- M.courtWord -/
def bk_86 : List (Nat × List Instr) := [
  (0, [.iload 0, .tableswitch 47 0 3 #[32, 36, 39, 43]]),
  (32, [.ldc 1, .areturn]),
  (36, [.ldc 2, .areturn]),
  (39, [.ldc 3, .areturn]),
  (43, [.ldc 4, .areturn]),
  (47, [.ldc 5, .areturn])]
/-- M.quarrelPart -/
def bk_87 : List (Nat × List Instr) := [
  (0, [.aload 0, .iconst 0, .aload 0, .invokeinterface 3 13, .iconst 2, .iaload, .iconst 1, .isub, .invokevirtual 30852, .istore 1, .aload 0, .invokevirtual 30690, .aload 0, .invokeinterface 3 20, .istore 2, .aload 0, .iconst 0, .aload 0, .invokeinterface 3 13, .iconst 2, .iaload, .iconst 1, .isub, .invokevirtual 30852, .istore 3, .aload 0, .invokeinterface 3 21, .ifCond .ne 55, .iload 1, .iload 3, .if_icmp .ne 55, .aload 0, .iconst 1, .iload 2, .invokevirtual 30672, .goto_w 55]),
  (55, [.aload 0, .invokeinterface 3 21, .ifCond .ne 86, .aload 0, .invokeinterface 3 15, .iload 1, .dup2, .iaload, .iconst 1, .iload 3, .ishl, .ior, .iastore, .aload 0, .invokeinterface 3 15, .iload 3, .dup2, .iaload, .iconst 1, .iload 1, .ishl, .ior, .iastore, .goto_w 86]),
  (86, [.return_])]
/-- M.courtPart -/
def bk_88 : List (Nat × List Instr) := [
  (0, [.iload 1, .tableswitch 183 0 3 #[32, 61, 92, 137]]),
  (32, [.aload 0, .invokeinterface 3 13, .iconst 0, .aload 0, .iconst 1, .iconst 12, .invokevirtual 30852, .iastore, .aload 0, .invokeinterface 3 13, .iconst 1, .aload 0, .iconst 1, .iconst 99, .invokevirtual 30852, .iastore, .goto 187]),
  (61, [.aload 0, .invokeinterface 3 14, .aload 0, .invokeinterface 3 13, .iconst 2, .iaload, .aload 0, .iconst 0, .iconst 20, .invokevirtual 30852, .iastore, .aload 0, .invokeinterface 3 13, .iconst 2, .dup2, .iaload, .iconst 1, .iadd, .iastore, .goto 187]),
  (92, [.aload 0, .iconst 0, .aload 0, .invokeinterface 3 13, .iconst 0, .iaload, .iconst 1, .isub, .invokevirtual 30852, .istore 2, .aload 0, .iconst 0, .aload 0, .invokeinterface 3 13, .iconst 2, .iaload, .iconst 1, .isub, .invokevirtual 30852, .istore 3, .aload 0, .invokeinterface 3 21, .ifCond .ne 187, .aload 0, .invokeinterface 3 16, .iload 2, .iload 3, .iastore, .goto 187]),
  (137, [.aload 0, .invokeinterface 3 13, .iconst 3, .iaload, .istore 2, .aload 0, .invokeinterface 3 17, .iload 2, .aload 0, .iconst 0, .iconst 99, .invokevirtual 30852, .iastore, .aload 0, .invokeinterface 3 18, .iload 2, .aload 0, .iconst 0, .iconst 9, .invokevirtual 30852, .iastore, .aload 0, .invokeinterface 3 13, .iconst 3, .dup2, .iaload, .iconst 1, .iadd, .iastore, .goto 187]),
  (183, [.aload 0, .invokevirtual 30870, .goto_w 187]),
  (187, [.return_])]
/-- M.isFull -/
def bk_89 : List (Nat × List Instr) := [
  (0, [.iload 2, .iconst 40, .if_icmp .eq 27, .iload 1, .ifCond .ne 14, .iconst 1, .goto 15]),
  (14, [.iconst 0, .goto_w 15]),
  (15, [.iload 2, .ifCond .ne 23, .iconst 1, .goto 24]),
  (23, [.iconst 0, .goto_w 24]),
  (24, [.if_icmp .eq 29, .goto_w 27]),
  (27, [.iconst 1, .freturn]),
  (29, [.iload 1, .lookupswitch 90 #[(1, 56), (3, 73)]]),
  (56, [.aload 0, .invokeinterface 3 13, .iconst 2, .iaload, .iconst 6, .if_icmp .ne 71, .iconst 1, .goto 72]),
  (71, [.iconst 0, .goto_w 72]),
  (72, [.freturn]),
  (73, [.aload 0, .invokeinterface 3 13, .iconst 3, .iaload, .iconst 6, .if_icmp .ne 88, .iconst 1, .goto 89]),
  (88, [.iconst 0, .goto_w 89]),
  (89, [.freturn]),
  (90, [.iconst 0, .freturn])]
/-- M.courtClause -/
def bk_90 : List (Nat × List Instr) := [
  (0, [.aload 0, .invokevirtual 30690, .aload 0, .invokeinterface 3 20, .istore 2, .iconst 0, .istore 3, .goto_w 11]),
  (11, [.iload 3, .iconst 5, .if_icmp .ge 33, .aload 0, .iload 3, .invokestatic 861, .invokevirtual 30711, .ifCond .ne 33, .iinc 3 1, .goto 11]),
  (33, [.iload 3, .iconst 5, .if_icmp .ne 45, .aload 0, .iconst 0, .iload 2, .invokevirtual 30672, .return_]),
  (45, [.aload 0, .iload 3, .iload 1, .invokevirtual 30892, .ifCond .eq 61, .aload 0, .iconst 4, .iload 2, .invokevirtual 30672, .return_]),
  (61, [.aload 0, .dup, .invokeinterface 3 20, .iload 3, .invokestatic 861, .invokevirtual 192330, .iadd, .multianewarray 3 20, .aload 0, .iload 3, .invokevirtual 30881, .return_])]
/-- M.copies -/
def bk_91 : List (Nat × List Instr) := [
  (0, [.iconst 0, .istore 2, .goto_w 2]),
  (2, [.iload 2, .aload 0, .arraylength, .if_icmp .ge 20, .aload 1, .iload 2, .aload 0, .iload 2, .iaload, .iastore, .iinc 2 1, .goto 2]),
  (20, [.return_])]
/-- M.goesOn -/
def bk_92 : List (Nat × List Instr) := [
  (0, [.aload 0, .invokevirtual 30690, .aload 0, .invokeinterface 3 21, .ifCond .ne 40, .aload 0, .invokeinterface 3 20, .aload 0, .invokeinterface 3 19, .if_icmp .ge 40, .aload 0, .invokevirtual 30680, .iconst 59, .if_icmp .eq 40, .aload 0, .iconst 0, .aload 0, .invokeinterface 3 20, .invokevirtual 30672, .goto_w 40]),
  (40, [.aload 0, .invokeinterface 3 21, .ifCond .ne 62, .aload 0, .invokeinterface 3 20, .aload 0, .invokeinterface 3 19, .if_icmp .ge 62, .iconst 1, .goto 63]),
  (62, [.iconst 0, .goto_w 63]),
  (63, [.istore 1, .aload 0, .dup, .invokeinterface 3 20, .iconst 1, .iadd, .multianewarray 3 20, .iload 1, .freturn])]
/-- M.starts -/
def bk_93 : List (Nat × List Instr) := [
  (0, [.aload 0, .iconst 0, .multianewarray 3 20, .aload 0, .iconst 0, .multianewarray 3 21, .aload 0, .iconst 0, .multianewarray 3 24, .aload 0, .iconst 0, .multianewarray 3 25, .aload 0, .iconst 0, .multianewarray 3 26, .return_])]
/-- M.readsAll -/
def bk_94 : List (Nat × List Instr) := [
  (0, [.aload 0, .invokevirtual 30930, .iconst 0, .istore 1, .goto_w 6]),
  (6, [.iload 1, .iconst 4, .if_icmp .ge 24, .aload 0, .invokeinterface 3 13, .iload 1, .iconst 0, .iastore, .iinc 1 1, .goto 6]),
  (24, [.iconst 0, .istore 1, .goto_w 26]),
  (26, [.iload 1, .iconst 12, .if_icmp .ge 45, .aload 0, .invokeinterface 3 16, .iload 1, .iconst (-1), .iastore, .iinc 1 1, .goto 26]),
  (45, [.iconst 0, .istore 1, .goto_w 47]),
  (47, [.iload 1, .iconst 6, .if_icmp .ge 73, .aload 0, .invokeinterface 3 15, .iload 1, .iconst 0, .iastore, .aload 0, .invokeinterface 3 17, .iload 1, .iconst 0, .iastore, .iinc 1 1, .goto 47]),
  (73, [.iconst 0, .istore 1, .iconst 1, .istore 2, .goto_w 77]),
  (77, [.iload 2, .ifCond .eq 97, .aload 0, .iload 1, .invokevirtual 30901, .iinc 1 1, .aload 0, .invokevirtual 30920, .istore 2, .goto 77]),
  (97, [.aload 0, .iconst 0, .multianewarray 3 19, .return_])]
/-- M.begins -/
def bk_95 : List (Nat × List Instr) := [
  (0, [.aload 0, .invokeinterface 3 12, .aload 0, .invokeinterface 3 6, .invokestatic 912, .aload 0, .invokeinterface 3 1, .iconst 4, .iconst 0, .iastore, .aload 0, .invokeinterface 3 1, .iconst 5, .iconst (-1), .iastore, .aload 0, .invokeinterface 3 1, .iconst 6, .iconst (-1), .iastore, .aload 0, .invokeinterface 3 1, .iconst 7, .iconst 0, .iastore, .iconst 0, .istore 1, .goto_w 43]),
  (43, [.iload 1, .iconst 6, .if_icmp .ge 76, .aload 0, .invokeinterface 3 4, .iload 1, .iconst 0, .iastore, .aload 0, .invokeinterface 3 8, .iload 1, .iconst 0, .iastore, .aload 0, .invokeinterface 3 9, .iload 1, .iconst 0, .iastore, .iinc 1 1, .goto 43]),
  (76, [.return_])]
/-- M.court -/
def bk_96 : List (Nat × List Instr) := [
  (0, [.aload 0, .invokevirtual 30940, .aload 0, .invokeinterface 3 21, .ifCond .le 19, .iconst (-2), .aload 0, .invokeinterface 3 21, .isub, .ireturn]),
  (19, [.iconst 0, .istore 1, .goto_w 21]),
  (21, [.iload 1, .iconst 4, .if_icmp .ge 44, .aload 0, .invokeinterface 3 1, .iload 1, .aload 0, .invokeinterface 3 13, .iload 1, .iaload, .iastore, .iinc 1 1, .goto 21]),
  (44, [.aload 0, .invokeinterface 3 1, .iconst 8, .iconst 0, .iastore, .aload 0, .invokeinterface 3 14, .aload 0, .invokeinterface 3 2, .invokestatic 912, .aload 0, .invokeinterface 3 15, .aload 0, .invokeinterface 3 3, .invokestatic 912, .aload 0, .invokeinterface 3 16, .aload 0, .invokeinterface 3 5, .invokestatic 912, .aload 0, .invokeinterface 3 17, .aload 0, .invokeinterface 3 12, .invokestatic 912, .aload 0, .invokeinterface 3 18, .aload 0, .invokeinterface 3 7, .invokestatic 912, .aload 0, .invokevirtual 30950, .aload 0, .iconst 0, .multianewarray 3 41, .aload 0, .invokeinterface 3 1, .iconst 2, .iaload, .ireturn])]
/-- M.ruleClause -/
def bk_97 : List (Nat × List Instr) := [
  (0, [.aload 0, .invokevirtual 30690, .aload 0, .invokeinterface 3 20, .istore 2, .aload 0, .ldc 6, .invokevirtual 30711, .ifCond .ne 26, .aload 0, .iconst 0, .iload 2, .invokevirtual 30672, .return_]),
  (26, [.iload 1, .iconst 12, .if_icmp .ne 39, .aload 0, .iconst 4, .iload 2, .invokevirtual 30672, .return_]),
  (39, [.aload 0, .dup, .invokeinterface 3 20, .iconst 4, .iadd, .multianewarray 3 20, .iconst 12, .aload 0, .invokeinterface 3 22, .imul, .iload 1, .iadd, .istore 3, .aload 0, .invokeinterface 3 33, .iload 3, .aload 0, .invokeinterface 3 24, .iastore, .aload 0, .invokevirtual 30780, .aload 0, .invokeinterface 3 34, .iload 3, .aload 0, .invokeinterface 3 24, .iastore, .aload 0, .invokeinterface 3 21, .ifCond .ne 104, .aload 0, .ldc 18, .invokevirtual 30721, .ifCond .eq 104, .aload 0, .invokevirtual 30840, .goto_w 104]),
  (104, [.aload 0, .invokeinterface 3 35, .iload 3, .aload 0, .invokeinterface 3 24, .iastore, .return_])]
/-- M.rule -/
def bk_98 : List (Nat × List Instr) := [
  (0, [.aload 0, .invokeinterface 3 23, .iconst 6, .if_icmp .ne 11, .iconst (-1), .ireturn]),
  (11, [.aload 0, .aload 0, .invokeinterface 3 23, .multianewarray 3 22, .aload 0, .invokevirtual 30930, .iconst 0, .istore 1, .iconst 1, .istore 2, .goto_w 27]),
  (27, [.iload 2, .ifCond .eq 47, .aload 0, .iload 1, .invokevirtual 30971, .iinc 1 1, .aload 0, .invokevirtual 30920, .istore 2, .goto 27]),
  (47, [.aload 0, .iconst 0, .multianewarray 3 19, .aload 0, .invokeinterface 3 32, .aload 0, .invokeinterface 3 22, .iload 1, .iastore, .aload 0, .dup, .invokeinterface 3 23, .aload 0, .invokeinterface 3 21, .ifCond .ne 78, .iconst 1, .goto 79]),
  (78, [.iconst 0, .goto_w 79]),
  (79, [.iadd, .multianewarray 3 23, .aload 0, .invokeinterface 3 21, .ifCond .le 100, .iconst (-2), .aload 0, .invokeinterface 3 21, .isub, .goto 106]),
  (100, [.aload 0, .invokeinterface 3 23, .iconst 1, .isub, .goto_w 106]),
  (106, [.ireturn])]
/-- M.force -/
def bk_99 : List (Nat × List Instr) := [
  (0, [.iload 1, .i2l, .jsr (-1), .aload 0, .invokeinterface 3 23, .iconst 1, .isub, .i2l, .invokestatic 573, .ifCond .ne 21, .iconst (-2), .ireturn]),
  (21, [.aload 0, .invokeinterface 3 1, .iconst 10, .iaload, .istore 2, .aload 0, .invokeinterface 3 1, .iconst 10, .iload 1, .iastore, .iload 2, .ireturn])]
/-- M.wanted -/
def bk_100 : List (Nat × List Instr) := [
  (0, [.aload 0, .invokeinterface 3 1, .iconst 10, .iaload, .istore 1, .iconst 12, .iload 1, .imul, .istore 2, .goto_w 13]),
  (13, [.iload 2, .iconst 12, .iload 1, .imul, .aload 0, .invokeinterface 3 32, .iload 1, .iaload, .iadd, .if_icmp .ge 89, .aload 0, .invokeinterface 3 34, .iload 2, .iaload, .aload 0, .invokeinterface 3 35, .iload 2, .iaload, .if_icmp .eq 65, .aload 0, .iload 1, .aload 0, .invokeinterface 3 34, .iload 2, .iaload, .aload 0, .invokeinterface 3 35, .iload 2, .iaload, .invokevirtual 31033, .jsr 1, .lcmp, .ifCond .ne 83, .goto_w 65]),
  (65, [.aload 0, .iload 1, .aload 0, .invokeinterface 3 33, .iload 2, .iaload, .aload 0, .invokeinterface 3 34, .iload 2, .iaload, .invokevirtual 31033, .lreturn]),
  (83, [.iinc 2 1, .goto 13]),
  (89, [.jsr 0, .lreturn])]
/-- M.truth -/
def bk_101 : List (Nat × List Instr) := [
  (0, [.iload 0, .ifCond .eq 8, .jsr 1, .goto 9]),
  (8, [.jsr 0, .goto_w 9]),
  (9, [.lreturn])]
/-- M.both -/
def bk_102 : List (Nat × List Instr) := [
  (0, [.iload 0, .tableswitch 191 2 15 #[72, 76, 112, 127, 142, 157, 172, 191, 187, 191, 191, 80, 84, 98]]),
  (72, [.lload 1, .lload 3, .ladd, .lreturn]),
  (76, [.lload 1, .lload 3, .lsub, .lreturn]),
  (80, [.lload 1, .lload 3, .lmul, .lreturn]),
  (84, [.lload 3, .jsr 0, .lcmp, .ifCond .ne 94, .jsr 0, .goto 97]),
  (94, [.lload 1, .lload 3, .ldiv, .goto_w 97]),
  (97, [.lreturn]),
  (98, [.lload 3, .jsr 0, .lcmp, .ifCond .ne 108, .jsr 0, .goto 111]),
  (108, [.lload 1, .lload 3, .lrem, .goto_w 111]),
  (111, [.lreturn]),
  (112, [.lload 1, .lload 3, .lcmp, .ifCond .ge 122, .iconst 1, .goto 123]),
  (122, [.iconst 0, .goto_w 123]),
  (123, [.invokestatic 1011, .lreturn]),
  (127, [.lload 1, .lload 3, .lcmp, .ifCond .gt 137, .iconst 1, .goto 138]),
  (137, [.iconst 0, .goto_w 138]),
  (138, [.invokestatic 1011, .lreturn]),
  (142, [.lload 1, .lload 3, .lcmp, .ifCond .ne 152, .iconst 1, .goto 153]),
  (152, [.iconst 0, .goto_w 153]),
  (153, [.invokestatic 1011, .lreturn]),
  (157, [.lload 1, .lload 3, .lcmp, .ifCond .lt 167, .iconst 1, .goto 168]),
  (167, [.iconst 0, .goto_w 168]),
  (168, [.invokestatic 1011, .lreturn]),
  (172, [.lload 1, .lload 3, .lcmp, .ifCond .le 182, .iconst 1, .goto 183]),
  (182, [.iconst 0, .goto_w 183]),
  (183, [.invokestatic 1011, .lreturn]),
  (187, [.lload 1, .lload 3, .land, .lreturn]),
  (191, [.lload 1, .lload 3, .lor, .lreturn])]
/-- M.answer -/
def bk_103 : List (Nat × List Instr) := [
  (0, [.iconst 0, .istore 4, .iload 2, .istore 5, .goto_w 6]),
  (6, [.iload 5, .iload 3, .if_icmp .ge 153, .aload 0, .invokeinterface 3 30, .iconst 300, .iload 1, .imul, .iload 5, .iadd, .iaload, .istore 6, .aload 0, .invokeinterface 3 31, .iconst 300, .iload 1, .imul, .iload 5, .iadd, .iaload, .istore 7, .iload 6, .ifCond .eq 53, .iload 6, .iconst 1, .if_icmp .ne 84, .goto_w 53]),
  (53, [.aload 0, .invokeinterface 3 38, .iload 4, .iload 6, .ifCond .ne 70, .iload 7, .i2l, .goto 77]),
  (70, [.aload 0, .invokeinterface 3 37, .iload 7, .laload, .goto_w 77]),
  (77, [.lastore, .iinc 4 1, .goto 147]),
  (84, [.iload 6, .iconst 9, .if_icmp .ne 114, .aload 0, .invokeinterface 3 38, .iload 4, .iconst 1, .isub, .jsr 1, .aload 0, .invokeinterface 3 38, .iload 4, .iconst 1, .isub, .laload, .lsub, .lastore, .goto 147]),
  (114, [.iinc 4 (-1), .aload 0, .invokeinterface 3 38, .iload 4, .iconst 1, .isub, .iload 6, .aload 0, .invokeinterface 3 38, .iload 4, .iconst 1, .isub, .laload, .aload 0, .invokeinterface 3 38, .iload 4, .laload, .invokestatic 1023, .lastore, .goto_w 147]),
  (147, [.iinc 5 1, .goto 6]),
  (153, [.aload 0, .invokeinterface 3 38, .iconst 0, .laload, .lreturn])]
/-- M.knightsOf -/
def bk_104 : List (Nat × List Instr) := [
  (0, [.iconst 0, .istore 2, .iconst 0, .istore 3, .goto_w 4]),
  (4, [.iload 3, .aload 0, .invokeinterface 3 1, .iconst 3, .iaload, .if_icmp .ge 33, .iload 2, .aload 0, .invokeinterface 3 8, .iload 3, .iaload, .iload 1, .ishr, .iconst 1, .iand, .iadd, .istore 2, .iinc 3 1, .goto 4]),
  (33, [.iload 2, .ireturn])]
/-- M.thing -/
def bk_105 : List (Nat × List Instr) := [
  (0, [.aload 0, .iload 1, .invokevirtual 30611, .ifCond .ne 10, .iconst (-1), .ireturn]),
  (10, [.iload 2, .tableswitch 67 0 3 #[40, 47, 54, 60]]),
  (40, [.aload 0, .invokeinterface 3 2, .iload 1, .iaload, .ireturn]),
  (47, [.aload 0, .invokeinterface 3 4, .iload 1, .iaload, .ireturn]),
  (54, [.aload 0, .iload 1, .invokevirtual 31041, .ireturn]),
  (60, [.aload 0, .invokeinterface 3 3, .iload 1, .iaload, .ireturn]),
  (67, [.iconst (-1), .ireturn])]
/-- M.usual -/
def bk_106 : List (Nat × List Instr) := [
  (0, [.aload 0, .invokevirtual 30600, .ifCond .eq 34, .iload 1, .i2l, .jsr 0, .aload 0, .invokeinterface 3 1, .iconst 0, .iaload, .iconst 1, .isub, .i2l, .invokestatic 573, .ifCond .eq 34, .aload 0, .invokeinterface 3 5, .iload 1, .iaload, .goto 36]),
  (34, [.iconst (-2), .goto_w 36]),
  (36, [.ireturn])]
/-- M.rankOf -/
def bk_107 : List (Nat × List Instr) := [
  (0, [.iconst 0, .istore 2, .iconst 0, .istore 3, .goto_w 4]),
  (4, [.iload 3, .aload 0, .invokeinterface 3 1, .iconst 2, .iaload, .if_icmp .ge 46, .iload 2, .aload 0, .invokeinterface 3 8, .iload 1, .iaload, .iload 3, .invokestatic 592, .ifCond .eq 37, .aload 0, .invokeinterface 3 2, .iload 3, .iaload, .goto 38]),
  (37, [.iconst 0, .goto_w 38]),
  (38, [.iadd, .istore 2, .iinc 3 1, .goto 4]),
  (46, [.iload 2, .ireturn])]
/-- M.person -/
def bk_108 : List (Nat × List Instr) := [
  (0, [.aload 0, .iload 1, .invokevirtual 30621, .ifCond .ne 10, .iconst (-1), .ireturn]),
  (10, [.iload 2, .tableswitch 78 0 4 #[44, 51, 58, 65, 71]]),
  (44, [.aload 0, .invokeinterface 3 6, .iload 1, .iaload, .ireturn]),
  (51, [.aload 0, .invokeinterface 3 7, .iload 1, .iaload, .ireturn]),
  (58, [.aload 0, .invokeinterface 3 8, .iload 1, .iaload, .ireturn]),
  (65, [.aload 0, .iload 1, .invokevirtual 31071, .ireturn]),
  (71, [.aload 0, .invokeinterface 3 9, .iload 1, .iaload, .ireturn]),
  (78, [.iconst (-1), .ireturn])]
/-- M.knights -/
def bk_109 : List (Nat × List Instr) := [
  (0, [.iconst 0, .istore 1, .iconst 0, .istore 2, .goto_w 4]),
  (4, [.iload 2, .aload 0, .invokeinterface 3 1, .iconst 3, .iaload, .if_icmp .ge 39, .iload 1, .aload 0, .invokeinterface 3 8, .iload 2, .iaload, .ifCond .eq 30, .iconst 1, .iload 2, .ishl, .goto 31]),
  (30, [.iconst 0, .goto_w 31]),
  (31, [.ior, .istore 1, .iinc 2 1, .goto 4]),
  (39, [.iload 1, .ireturn])]
/-- M.sumOf -/
def bk_110 : List (Nat × List Instr) := [
  (0, [.iconst 0, .istore 2, .iconst 0, .istore 3, .iconst 0, .istore 4, .goto_w 7]),
  (7, [.iload 4, .aload 0, .invokeinterface 3 1, .iconst 3, .iaload, .if_icmp .ge 71, .iload 2, .aload 0, .invokeinterface 3 6, .iload 4, .iaload, .aload 0, .invokeinterface 3 1, .iconst 1, .iaload, .if_icmp .lt 39, .iconst 1, .goto 40]),
  (39, [.iconst 0, .goto_w 40]),
  (40, [.iadd, .istore 2, .aload 0, .invokeinterface 3 6, .iload 4, .iaload, .iload 3, .if_icmp .le 63, .aload 0, .invokeinterface 3 6, .iload 4, .iaload, .goto 64]),
  (63, [.iload 3, .goto_w 64]),
  (64, [.istore 3, .iinc 4 1, .goto 7]),
  (71, [.aload 0, .invokeinterface 3 1, .iconst 4, .iaload, .aload 0, .invokeinterface 3 1, .iconst 0, .iaload, .irem, .istore 4, .aload 0, .invokeinterface 3 37, .iconst 0, .iload 1, .i2l, .lastore, .aload 0, .invokeinterface 3 37, .iconst 1, .aload 0, .invokeinterface 3 2, .iload 1, .iaload, .i2l, .lastore, .aload 0, .invokeinterface 3 37, .iconst 2, .iload 4, .i2l, .lastore, .aload 0, .invokeinterface 3 37, .iconst 3, .aload 0, .invokeinterface 3 5, .iload 4, .iaload, .iload 1, .if_icmp .ne 136, .jsr 1, .goto 137]),
  (136, [.jsr 0, .goto_w 137]),
  (137, [.lastore, .aload 0, .invokeinterface 3 37, .iconst 4, .aload 0, .invokeinterface 3 1, .iconst 5, .iaload, .iload 1, .if_icmp .ne 157, .jsr 1, .goto 158]),
  (157, [.jsr 0, .goto_w 158]),
  (158, [.lastore, .aload 0, .invokeinterface 3 37, .iconst 5, .aload 0, .invokeinterface 3 4, .iload 1, .iaload, .i2l, .lastore, .aload 0, .invokeinterface 3 37, .iconst 6, .aload 0, .iload 1, .invokevirtual 31041, .i2l, .lastore, .aload 0, .invokeinterface 3 37, .iconst 7, .iload 2, .i2l, .lastore, .aload 0, .invokeinterface 3 37, .iconst 8, .aload 0, .invokevirtual 31090, .invokestatic 581, .i2l, .lastore, .aload 0, .invokeinterface 3 37, .iconst 9, .iload 3, .i2l, .lastore, .aload 0, .invokeinterface 3 37, .iconst 10, .aload 0, .invokeinterface 3 1, .iconst 3, .iaload, .i2l, .lastore, .aload 0, .invokeinterface 3 37, .iconst 11, .aload 0, .invokeinterface 3 1, .iconst 4, .iaload, .i2l, .lastore, .aload 0, .invokevirtual 31000, .lreturn])]
/-- M.holds -/
def bk_111 : List (Nat × List Instr) := [
  (0, [.aload 0, .invokeinterface 3 1, .iconst 7, .iaload, .ifCond .le 12, .iconst (-1), .ireturn]),
  (12, [.aload 0, .invokeinterface 3 1, .iconst 6, .iaload, .iconst (-1), .if_icmp .eq 31, .aload 0, .invokeinterface 3 1, .iconst 6, .iaload, .ireturn]),
  (31, [.aload 0, .invokeinterface 3 1, .iconst 10, .iaload, .iconst (-1), .if_icmp .ne 61, .aload 0, .invokeinterface 3 5, .aload 0, .invokeinterface 3 1, .iconst 4, .iaload, .aload 0, .invokeinterface 3 1, .iconst 0, .iaload, .irem, .iaload, .ireturn]),
  (61, [.iconst (-1), .istore 1, .jsr 0, .lstore 2, .iconst 0, .istore 4, .goto_w 68]),
  (68, [.iload 4, .aload 0, .invokeinterface 3 1, .iconst 2, .iaload, .if_icmp .ge 106, .aload 0, .iload 4, .invokevirtual 31101, .lstore 5, .lload 5, .lload 2, .lcmp, .ifCond .le 100, .iload 4, .istore 1, .lload 5, .lstore 2, .goto_w 100]),
  (100, [.iinc 4 1, .goto 68]),
  (106, [.iload 1, .ireturn])]
/-- M.upTo -/
def bk_112 : List (Nat × List Instr) := [
  (0, [.iload 0, .iload 1, .if_icmp .le 9, .iload 1, .goto 10]),
  (9, [.iload 0, .goto_w 10]),
  (10, [.ireturn])]
/-- M.goes -/
def bk_113 : List (Nat × List Instr) := [
  (0, [.aload 0, .invokevirtual 31110, .istore 1, .iconst 0, .istore 2, .iconst 0, .istore 3, .goto_w 9]),
  (9, [.iload 3, .aload 0, .invokeinterface 3 1, .iconst 3, .iaload, .if_icmp .ge 118, .aload 0, .invokeinterface 3 6, .iload 3, .aload 0, .invokeinterface 3 6, .iload 3, .iaload, .aload 0, .invokeinterface 3 7, .iload 3, .iaload, .iadd, .iconst 999, .invokestatic 1122, .iastore, .aload 0, .invokeinterface 3 6, .iload 3, .iaload, .aload 0, .invokeinterface 3 1, .iconst 1, .iaload, .if_icmp .lt 112, .iload 2, .iconst 1, .iload 3, .ishl, .ior, .istore 2, .aload 0, .invokeinterface 3 6, .iload 3, .iconst 0, .iastore, .aload 0, .invokeinterface 3 8, .iload 3, .dup2, .iaload, .iload 1, .iconst (-1), .if_icmp .ne 88, .iconst 0, .goto 91]),
  (88, [.iconst 1, .iload 1, .ishl, .goto_w 91]),
  (91, [.ior, .iastore, .aload 0, .invokeinterface 3 9, .iload 3, .dup2, .iaload, .iload 1, .iconst (-1), .if_icmp .ne 109, .iconst 1, .goto 110]),
  (109, [.iconst 0, .goto_w 110]),
  (110, [.iadd, .iastore, .goto_w 112]),
  (112, [.iinc 3 1, .goto 9]),
  (118, [.iload 1, .iconst (-1), .if_icmp .eq 133, .aload 0, .invokeinterface 3 4, .iload 1, .dup2, .iaload, .iconst 1, .iadd, .iastore, .goto_w 133]),
  (133, [.aload 0, .invokeinterface 3 1, .iconst 5, .iload 1, .iastore, .aload 0, .invokeinterface 3 1, .iconst 6, .iconst (-1), .iastore, .aload 0, .invokeinterface 3 1, .iconst 7, .dup2, .iaload, .aload 0, .invokeinterface 3 1, .iconst 7, .iaload, .ifCond .le 170, .iconst 1, .goto 171]),
  (170, [.iconst 0, .goto_w 171]),
  (171, [.isub, .iastore, .aload 0, .invokeinterface 3 1, .iconst 4, .dup2, .iaload, .iconst 1, .iadd, .iastore, .iload 2, .ireturn])]
/-- M.goFor -/
def bk_114 : List (Nat × List Instr) := [
  (0, [.iconst 0, .istore 2, .goto_w 2]),
  (2, [.iload 2, .iload 1, .if_icmp .ge 18, .aload 0, .invokevirtual 31130, .pop, .iinc 2 1, .goto 2]),
  (18, [.return_])]
/-- M.moves -/
def bk_115 : List (Nat × List Instr) := [
  (0, [.aload 0, .invokeinterface 3 43, .ifCond .eq 19, .aload 0, .invokeinterface 3 39, .aload 0, .invokeinterface 3 42, .iaload, .goto 20]),
  (19, [.iload 1, .goto_w 20]),
  (20, [.istore 2, .aload 0, .invokeinterface 3 39, .aload 0, .invokeinterface 3 42, .iload 2, .iastore, .aload 0, .dup, .invokeinterface 3 42, .iconst 1, .iadd, .multianewarray 3 42, .iload 2, .ireturn])]
/-- M.movesRow -/
def bk_116 : List (Nat × List Instr) := [
  (0, [.iconst 0, .istore 2, .goto_w 2]),
  (2, [.iload 2, .aload 1, .arraylength, .if_icmp .ge 24, .aload 1, .iload 2, .aload 0, .aload 1, .iload 2, .iaload, .invokevirtual 31151, .iastore, .iinc 2 1, .goto 2]),
  (24, [.return_])]
/-- M.movesAll -/
def bk_117 : List (Nat × List Instr) := [
  (0, [.aload 0, .iconst 28, .iload 1, .imul, .multianewarray 3 42, .aload 0, .iload 2, .multianewarray 3 343, .iconst 4, .istore 3, .goto_w 15]),
  (15, [.iload 3, .iconst 8, .if_icmp .ge 43, .aload 0, .invokeinterface 3 1, .iload 3, .aload 0, .aload 0, .invokeinterface 3 1, .iload 3, .iaload, .invokevirtual 31151, .iastore, .iinc 3 1, .goto 15]),
  (43, [.aload 0, .aload 0, .invokeinterface 3 4, .invokevirtual 31161, .aload 0, .aload 0, .invokeinterface 3 6, .invokevirtual 31161, .aload 0, .aload 0, .invokeinterface 3 8, .invokevirtual 31161, .aload 0, .aload 0, .invokeinterface 3 9, .invokevirtual 31161, .return_])]
/-- M.keepsAct -/
def bk_118 : List (Nat × List Instr) := [
  (0, [.aload 0, .invokeinterface 3 41, .iconst 20, .if_icmp .ne 50, .iconst 28, .istore 1, .goto_w 12]),
  (12, [.iload 1, .iconst 560, .if_icmp .ge 40, .aload 0, .invokeinterface 3 39, .iload 1, .iconst 28, .isub, .aload 0, .invokeinterface 3 39, .iload 1, .iaload, .iastore, .iinc 1 1, .goto 12]),
  (40, [.aload 0, .dup, .invokeinterface 3 41, .iconst 1, .isub, .multianewarray 3 41, .goto_w 50]),
  (50, [.aload 0, .aload 0, .invokeinterface 3 41, .iconst 0, .invokevirtual 31172, .aload 0, .dup, .invokeinterface 3 41, .iconst 1, .iadd, .multianewarray 3 41, .return_])]
/-- M.undo -/
def bk_119 : List (Nat × List Instr) := [
  (0, [.aload 0, .invokeinterface 3 41, .ifCond .ne 10, .iconst (-2), .ireturn]),
  (10, [.aload 0, .dup, .invokeinterface 3 41, .iconst 1, .isub, .multianewarray 3 41, .aload 0, .aload 0, .invokeinterface 3 41, .iconst 1, .invokevirtual 31172, .aload 0, .invokeinterface 3 41, .ireturn])]
/-- M.hour -/
def bk_120 : List (Nat × List Instr) := [
  (0, [.aload 0, .invokevirtual 30600, .ifCond .eq 19, .aload 0, .invokeinterface 3 1, .iconst 4, .iaload, .iconst 999, .if_icmp .ne 21, .goto_w 19]),
  (19, [.iconst (-1), .ireturn]),
  (21, [.aload 0, .invokevirtual 31180, .aload 0, .invokevirtual 31130, .ireturn])]
/-- M.deed -/
def bk_121 : List (Nat × List Instr) := [
  (0, [.aload 0, .iload 1, .invokevirtual 30621, .ifCond .eq 20, .iload 2, .i2l, .jsr 1, .jsr 99, .invokestatic 573, .ifCond .ne 22, .goto_w 20]),
  (20, [.iconst (-1), .ireturn]),
  (22, [.aload 0, .invokevirtual 31180, .aload 0, .invokeinterface 3 6, .iload 1, .aload 0, .invokeinterface 3 6, .iload 1, .iaload, .iload 2, .iadd, .iconst 999, .invokestatic 1122, .iastore, .aload 0, .invokeinterface 3 6, .iload 1, .iaload, .ireturn])]
/-- M.slight -/
def bk_122 : List (Nat × List Instr) := [
  (0, [.aload 0, .iload 1, .invokevirtual 30621, .ifCond .eq 30, .iload 2, .i2l, .jsr 1, .jsr 99, .invokestatic 573, .ifCond .eq 30, .aload 0, .invokeinterface 3 6, .iload 1, .iaload, .iload 2, .if_icmp .ge 32, .goto_w 30]),
  (30, [.iconst (-1), .ireturn]),
  (32, [.aload 0, .invokevirtual 31180, .aload 0, .invokeinterface 3 6, .iload 1, .dup2, .iaload, .iload 2, .isub, .iastore, .aload 0, .invokeinterface 3 6, .iload 1, .iaload, .ireturn])]
/-- M.tray -/
def bk_123 : List (Nat × List Instr) := [
  (0, [.aload 0, .invokevirtual 30600, .ifCond .eq 31, .iload 1, .iconst (-1), .if_icmp .eq 20, .aload 0, .iload 1, .invokevirtual 30611, .ifCond .eq 31, .goto_w 20]),
  (20, [.iload 1, .aload 0, .invokeinterface 3 1, .iconst 6, .iaload, .if_icmp .ne 34, .goto_w 31]),
  (31, [.iconst (-2), .ireturn]),
  (34, [.aload 0, .invokevirtual 31180, .aload 0, .invokeinterface 3 1, .iconst 6, .iaload, .istore 2, .aload 0, .invokeinterface 3 1, .iconst 6, .iload 1, .iastore, .iload 2, .ireturn])]
/-- M.gloves -/
def bk_124 : List (Nat × List Instr) := [
  (0, [.aload 0, .invokevirtual 30600, .ifCond .eq 19, .iload 1, .i2l, .jsr 1, .jsr 9, .invokestatic 573, .ifCond .ne 21, .goto_w 19]),
  (19, [.iconst (-1), .ireturn]),
  (21, [.aload 0, .invokevirtual 31180, .aload 0, .invokeinterface 3 1, .iconst 7, .iaload, .istore 2, .aload 0, .invokeinterface 3 1, .iconst 7, .iload 1, .iastore, .iload 2, .ireturn])]
/-- M.strip -/
def bk_125 : List (Nat × List Instr) := [
  (0, [.aload 0, .iload 1, .invokevirtual 30621, .ifCond .eq 29, .aload 0, .iload 2, .invokevirtual 30611, .ifCond .eq 29, .aload 0, .invokeinterface 3 8, .iload 1, .iaload, .iload 2, .invokestatic 592, .ifCond .ne 31, .goto_w 29]),
  (29, [.iconst (-1), .ireturn]),
  (31, [.aload 0, .invokevirtual 31180, .aload 0, .invokeinterface 3 8, .iload 1, .dup2, .iaload, .iconst 1, .iload 2, .ishl, .iconst (-1), .ixor, .iand, .iastore, .aload 0, .invokeinterface 3 8, .iload 1, .iaload, .ireturn])]
/-- M.keepsAll -/
def bk_126 : List (Nat × List Instr) := [
  (0, [.aload 0, .iconst 4, .iconst 0, .invokevirtual 31572, .return_])]
/-- M.laysBack -/
def bk_127 : List (Nat × List Instr) := [
  (0, [.aload 0, .iconst 4, .iconst 1, .invokevirtual 31572, .return_])]
/-- M.ahead -/
def bk_128 : List (Nat × List Instr) := [
  (0, [.iload 3, .ifCond .eq 24, .iload 3, .i2l, .jsr 1, .jsr 2, .invokestatic 573, .ifCond .eq 28, .aload 0, .iload 1, .invokevirtual 30621, .ifCond .eq 28, .goto_w 24]),
  (24, [.iconst 1, .goto 29]),
  (28, [.iconst 0, .goto_w 29]),
  (29, [.istore 4, .aload 0, .invokevirtual 30600, .ifCond .eq 55, .iload 4, .ifCond .eq 55, .iload 2, .i2l, .jsr 0, .jsr 100, .invokestatic 573, .ifCond .ne 58, .goto_w 55]),
  (55, [.iconst (-2), .ireturn]),
  (58, [.aload 0, .invokevirtual 31260, .aload 0, .iload 2, .invokevirtual 31141, .iload 3, .ifCond .ne 78, .aload 0, .invokevirtual 31110, .goto 98]),
  (78, [.iload 3, .iconst 1, .if_icmp .ne 92, .aload 0, .invokeinterface 3 8, .iload 1, .iaload, .goto 98]),
  (92, [.aload 0, .invokeinterface 3 6, .iload 1, .iaload, .goto_w 98]),
  (98, [.istore 5, .aload 0, .invokevirtual 31270, .iload 5, .ireturn])]
/-- M.dubbed -/
def bk_129 : List (Nat × List Instr) := [
  (0, [.aload 0, .iload 1, .invokevirtual 30621, .ifCond .eq 18, .iload 2, .i2l, .jsr 0, .jsr 1, .invokestatic 573, .ifCond .ne 21, .goto_w 18]),
  (18, [.iconst (-3), .ireturn]),
  (21, [.aload 0, .invokevirtual 31260, .iconst (-2), .istore 3, .iconst 0, .istore 4, .goto_w 31]),
  (31, [.iload 4, .iconst 100, .if_icmp .ge 70, .iload 3, .iconst (-2), .if_icmp .ne 70, .aload 0, .invokevirtual 31130, .iload 1, .invokestatic 592, .ifCond .eq 64, .aload 0, .invokeinterface 3 1, .iconst 4, .iaload, .iconst 1, .isub, .istore 3, .goto_w 64]),
  (64, [.iinc 4 1, .goto 31]),
  (70, [.iload 3, .iconst (-2), .if_icmp .ne 81, .iconst (-2), .goto 87]),
  (81, [.aload 0, .invokeinterface 3 1, .iconst 5, .iaload, .goto_w 87]),
  (87, [.istore 4, .aload 0, .invokevirtual 31270, .iload 2, .ifCond .ne 101, .iload 3, .goto 103]),
  (101, [.iload 4, .goto_w 103]),
  (103, [.ireturn])]
/-- M.least -/
def bk_130 : List (Nat × List Instr) := [
  (0, [.aload 0, .iload 1, .invokevirtual 30621, .ifCond .eq 28, .aload 0, .iload 2, .invokevirtual 30611, .ifCond .eq 28, .iload 3, .i2l, .jsr 1, .jsr 60, .invokestatic 573, .ifCond .ne 30, .goto_w 28]),
  (28, [.iconst (-1), .ireturn]),
  (30, [.aload 0, .invokevirtual 31260, .iconst (-2), .istore 4, .iconst 0, .istore 5, .goto_w 41]),
  (41, [.iload 5, .iconst 200, .if_icmp .gt 114, .iload 4, .iconst (-2), .if_icmp .ne 114, .aload 0, .invokeinterface 3 6, .iload 1, .aload 0, .invokeinterface 3 6, .iload 1, .iaload, .iload 5, .iadd, .iconst 999, .invokestatic 1122, .iastore, .aload 0, .iload 3, .invokevirtual 31141, .aload 0, .invokeinterface 3 8, .iload 1, .iaload, .iload 2, .invokestatic 592, .ifCond .eq 100, .iload 5, .goto 102]),
  (100, [.iconst (-2), .goto_w 102]),
  (102, [.istore 4, .aload 0, .invokevirtual 31270, .iinc 5 1, .goto 41]),
  (114, [.iload 4, .ireturn])]
/-- M.isSpared -/
def bk_131 : List (Nat × List Instr) := [
  (0, [.iconst 1, .istore 4, .iconst 0, .istore 5, .goto_w 6]),
  (6, [.iload 5, .iload 2, .if_icmp .ge 80, .aload 0, .invokeinterface 3 1, .iconst 7, .iload 3, .iload 5, .invokestatic 592, .ifCond .eq 31, .iconst 1, .goto 32]),
  (31, [.iconst 0, .goto_w 32]),
  (32, [.iastore, .aload 0, .invokevirtual 31130, .ifCond .eq 44, .iconst 1, .goto 45]),
  (44, [.iconst 0, .goto_w 45]),
  (45, [.istore 6, .iload 4, .ifCond .eq 71, .iload 6, .ifCond .eq 67, .aload 0, .invokeinterface 3 1, .iconst 5, .iaload, .iload 1, .if_icmp .eq 71, .goto_w 67]),
  (67, [.iconst 1, .goto 72]),
  (71, [.iconst 0, .goto_w 72]),
  (72, [.istore 4, .iinc 5 1, .goto 6]),
  (80, [.aload 0, .invokevirtual 31270, .iload 4, .freturn])]
/-- M.spare -/
def bk_132 : List (Nat × List Instr) := [
  (0, [.aload 0, .iload 1, .invokevirtual 30611, .ifCond .eq 30, .iload 2, .i2l, .jsr 1, .jsr 8, .invokestatic 573, .ifCond .eq 30, .iload 3, .i2l, .jsr 0, .jsr 1, .invokestatic 573, .ifCond .ne 32, .goto_w 30]),
  (30, [.iconst (-1), .ireturn]),
  (32, [.iconst 1, .iload 2, .ishl, .iconst 1, .isub, .istore 4, .aload 0, .invokevirtual 31260, .iconst 0, .istore 5, .goto_w 46]),
  (46, [.iload 5, .iconst 1, .iload 2, .ishl, .if_icmp .ge 93, .iload 5, .invokestatic 581, .iload 4, .invokestatic 581, .if_icmp .ge 87, .aload 0, .iload 1, .iload 2, .iload 5, .invokevirtual 31313, .ifCond .eq 83, .iload 5, .goto 85]),
  (83, [.iload 4, .goto_w 85]),
  (85, [.istore 4, .goto_w 87]),
  (87, [.iinc 5 1, .goto 46]),
  (93, [.iload 3, .ifCond .ne 105, .iload 4, .invokestatic 581, .goto 107]),
  (105, [.iload 4, .goto_w 107]),
  (107, [.ireturn])]
/-- M.lay -/
def bk_133 : List (Nat × List Instr) := [
  (0, [.aload 0, .iload 1, .invokevirtual 30621, .ifCond .eq 30, .iload 2, .i2l, .jsr 1, .jsr 60, .invokestatic 573, .ifCond .eq 30, .iload 3, .i2l, .jsr 0, .jsr 1, .invokestatic 573, .ifCond .ne 33, .goto_w 30]),
  (30, [.iconst (-2), .ireturn]),
  (33, [.iconst (-1), .istore 4, .iconst (-1), .istore 5, .aload 0, .invokevirtual 31260, .iconst (-1), .istore 6, .goto_w 46]),
  (46, [.iload 6, .aload 0, .invokeinterface 3 1, .iconst 2, .iaload, .if_icmp .ge 102, .aload 0, .invokeinterface 3 1, .iconst 6, .iload 6, .iastore, .aload 0, .iload 2, .invokevirtual 31141, .aload 0, .iload 1, .invokevirtual 31071, .iload 5, .if_icmp .le 92, .iload 6, .istore 4, .aload 0, .iload 1, .invokevirtual 31071, .istore 5, .goto_w 92]),
  (92, [.aload 0, .invokevirtual 31270, .iinc 6 1, .goto 46]),
  (102, [.iload 3, .ifCond .ne 111, .iload 4, .goto 113]),
  (111, [.iload 5, .goto_w 113]),
  (113, [.ireturn])]
/-- M.held -/
def bk_134 : List (Nat × List Instr) := [
  (0, [.aload 0, .invokevirtual 30600, .ifCond .eq 33, .iload 1, .i2l, .jsr 1, .jsr 100, .invokestatic 573, .ifCond .eq 33, .iload 2, .iconst 6, .if_icmp .eq 35, .aload 0, .iload 2, .invokevirtual 30611, .ifCond .ne 35, .goto_w 33]),
  (33, [.iconst (-1), .ireturn]),
  (35, [.iconst 0, .istore 3, .goto_w 37]),
  (37, [.iload 3, .iconst 6, .if_icmp .ge 56, .aload 0, .invokeinterface 3 44, .iload 3, .iconst 0, .iastore, .iinc 3 1, .goto 37]),
  (56, [.aload 0, .invokevirtual 31260, .iconst 0, .istore 3, .goto_w 62]),
  (62, [.iload 3, .iload 1, .if_icmp .ge 103, .aload 0, .invokevirtual 31130, .pop, .aload 0, .invokeinterface 3 1, .iconst 5, .iaload, .iconst (-1), .if_icmp .eq 97, .aload 0, .invokeinterface 3 44, .aload 0, .invokeinterface 3 1, .iconst 5, .iaload, .dup2, .iaload, .iconst 1, .iadd, .iastore, .goto_w 97]),
  (97, [.iinc 3 1, .goto 62]),
  (103, [.aload 0, .invokevirtual 31270, .iconst 0, .istore 3, .iconst 0, .istore 4, .goto_w 112]),
  (112, [.iload 4, .aload 0, .invokeinterface 3 1, .iconst 2, .iaload, .if_icmp .ge 150, .iload 3, .aload 0, .invokeinterface 3 44, .iload 4, .iaload, .ifCond .ne 141, .iconst 1, .iload 4, .ishl, .goto 142]),
  (141, [.iconst 0, .goto_w 142]),
  (142, [.ior, .istore 3, .iinc 4 1, .goto 112]),
  (150, [.iload 2, .iconst 6, .if_icmp .ne 160, .iload 3, .goto 166]),
  (160, [.aload 0, .invokeinterface 3 44, .iload 2, .iaload, .goto_w 166]),
  (166, [.ireturn])]
/-- M.place -/
def bk_135 : List (Nat × List Instr) := [
  (0, [.aload 0, .iload 1, .invokevirtual 30621, .ifCond .ne 10, .iconst (-1), .ireturn]),
  (10, [.iconst 0, .istore 2, .iconst 0, .istore 3, .goto_w 14]),
  (14, [.iload 3, .aload 0, .invokeinterface 3 1, .iconst 3, .iaload, .if_icmp .ge 69, .iload 2, .aload 0, .iload 3, .invokevirtual 31071, .aload 0, .iload 1, .invokevirtual 31071, .if_icmp .gt 56, .aload 0, .iload 3, .invokevirtual 31071, .aload 0, .iload 1, .invokevirtual 31071, .if_icmp .ne 60, .iload 3, .iload 1, .if_icmp .ge 60, .goto_w 56]),
  (56, [.iconst 1, .goto 61]),
  (60, [.iconst 0, .goto_w 61]),
  (61, [.iadd, .istore 2, .iinc 3 1, .goto 14]),
  (69, [.iload 2, .ireturn])]
/-- M.quarrel -/
def bk_136 : List (Nat × List Instr) := [
  (0, [.iconst 0, .istore 3, .goto_w 2]),
  (2, [.iload 3, .aload 0, .invokeinterface 3 1, .iconst 2, .iaload, .if_icmp .ge 49, .aload 0, .invokeinterface 3 8, .iload 1, .iaload, .iload 3, .invokestatic 592, .ifCond .eq 43, .aload 0, .invokeinterface 3 3, .iload 3, .iaload, .aload 0, .invokeinterface 3 8, .iload 2, .iaload, .iand, .ifCond .eq 43, .iconst 1, .freturn]),
  (43, [.iinc 3 1, .goto 2]),
  (49, [.iconst 0, .freturn])]
/-- M.isPeace -/
def bk_137 : List (Nat × List Instr) := [
  (0, [.iconst 0, .istore 2, .goto_w 2]),
  (2, [.iload 2, .aload 0, .invokeinterface 3 1, .iconst 3, .iaload, .if_icmp .ge 63, .iload 2, .istore 3, .goto_w 14]),
  (14, [.iload 3, .aload 0, .invokeinterface 3 1, .iconst 3, .iaload, .if_icmp .ge 57, .iload 1, .iload 2, .invokestatic 592, .ifCond .ne 51, .iload 1, .iload 3, .invokestatic 592, .ifCond .ne 51, .aload 0, .iload 2, .iload 3, .invokevirtual 31362, .ifCond .eq 51, .iconst 0, .freturn]),
  (51, [.iinc 3 1, .goto 14]),
  (57, [.iinc 2 1, .goto 2]),
  (63, [.iconst 1, .freturn])]
/-- M.stripped -/
def bk_138 : List (Nat × List Instr) := [
  (0, [.aload 0, .invokevirtual 30600, .ifCond .eq 17, .iload 1, .i2l, .jsr 0, .jsr 1, .invokestatic 573, .ifCond .ne 19, .goto_w 17]),
  (17, [.iconst (-1), .ireturn]),
  (19, [.iconst 1, .aload 0, .invokeinterface 3 1, .iconst 3, .iaload, .ishl, .iconst 1, .isub, .istore 2, .iconst 0, .istore 3, .goto_w 32]),
  (32, [.iload 3, .iconst 1, .aload 0, .invokeinterface 3 1, .iconst 3, .iaload, .ishl, .if_icmp .ge 71, .iload 3, .invokestatic 581, .iload 2, .invokestatic 581, .if_icmp .ge 65, .aload 0, .iload 3, .invokevirtual 31371, .ifCond .eq 65, .iload 3, .istore 2, .goto_w 65]),
  (65, [.iinc 3 1, .goto 32]),
  (71, [.iload 1, .ifCond .ne 82, .iload 2, .invokestatic 581, .goto 83]),
  (82, [.iload 2, .goto_w 83]),
  (83, [.ireturn])]
/-- M.gold -/
def bk_139 : List (Nat × List Instr) := [
  (0, [.aload 0, .iload 2, .invokevirtual 30621, .ifCond .eq 20, .iload 1, .i2l, .jsr 0, .jsr 9999, .invokestatic 573, .ifCond .ne 22, .goto_w 20]),
  (20, [.iconst (-1), .ireturn]),
  (22, [.iconst 0, .istore 3, .iconst 0, .istore 4, .goto_w 27]),
  (27, [.iload 4, .aload 0, .invokeinterface 3 1, .iconst 3, .iaload, .if_icmp .ge 53, .iload 3, .aload 0, .iload 4, .invokevirtual 31071, .iadd, .istore 3, .iinc 4 1, .goto 27]),
  (53, [.iload 3, .ifCond .ne 59, .iconst 0, .ireturn]),
  (59, [.iload 1, .istore 4, .iconst 0, .istore 5, .iconst 0, .istore 6, .goto_w 68]),
  (68, [.iload 6, .aload 0, .invokeinterface 3 1, .iconst 3, .iaload, .if_icmp .ge 148, .iload 4, .iload 1, .aload 0, .iload 6, .invokevirtual 31071, .imul, .iload 3, .idiv, .isub, .istore 4, .iload 1, .aload 0, .iload 6, .invokevirtual 31071, .imul, .iload 3, .irem, .iload 1, .aload 0, .iload 2, .invokevirtual 31071, .imul, .iload 3, .irem, .isub, .istore 7, .iload 5, .iload 7, .ifCond .gt 134, .iload 7, .ifCond .ne 138, .iload 6, .iload 2, .if_icmp .ge 138, .goto_w 134]),
  (134, [.iconst 1, .goto 139]),
  (138, [.iconst 0, .goto_w 139]),
  (139, [.iadd, .istore 5, .iinc 6 1, .goto 68]),
  (148, [.iload 1, .aload 0, .iload 2, .invokevirtual 31071, .imul, .iload 3, .idiv, .iload 5, .iload 4, .if_icmp .ge 168, .iconst 1, .goto 169]),
  (168, [.iconst 0, .goto_w 169]),
  (169, [.iadd, .ireturn])]
/-- M.laysDeeds -/
def bk_140 : List (Nat × List Instr) := [
  (0, [.aload 0, .invokevirtual 31260, .iconst 0, .istore 4, .goto_w 7]),
  (7, [.iload 4, .iconst 25, .if_icmp .ge 115, .aload 0, .invokeinterface 3 6, .iload 1, .aload 0, .invokeinterface 3 6, .iload 1, .iaload, .iconst 10, .iload 4, .iconst 5, .idiv, .imul, .iadd, .iconst 999, .invokestatic 1122, .iastore, .aload 0, .invokeinterface 3 6, .iload 2, .aload 0, .invokeinterface 3 6, .iload 2, .iaload, .iconst 10, .iload 4, .iconst 5, .irem, .imul, .iadd, .iconst 999, .invokestatic 1122, .iastore, .aload 0, .iload 3, .invokevirtual 31141, .aload 0, .invokeinterface 3 45, .iload 4, .aload 0, .iload 1, .invokevirtual 31071, .iload 4, .iconst 5, .idiv, .isub, .iastore, .aload 0, .invokeinterface 3 46, .iload 4, .aload 0, .iload 2, .invokevirtual 31071, .iload 4, .iconst 5, .irem, .isub, .iastore, .aload 0, .invokevirtual 31270, .iinc 4 1, .goto 7]),
  (115, [.return_])]
/-- M.isRest -/
def bk_141 : List (Nat × List Instr) := [
  (0, [.iconst 0, .istore 2, .goto_w 2]),
  (2, [.iload 2, .iconst 5, .if_icmp .ge 57, .aload 0, .invokeinterface 3 45, .iconst 5, .iload 2, .imul, .iload 1, .iconst 5, .irem, .iadd, .iaload, .aload 0, .invokeinterface 3 45, .iload 1, .iaload, .if_icmp .gt 49, .aload 0, .invokeinterface 3 46, .iload 1, .iload 1, .iconst 5, .irem, .isub, .iload 2, .iadd, .iaload, .aload 0, .invokeinterface 3 46, .iload 1, .iaload, .if_icmp .le 51, .goto_w 49]),
  (49, [.iconst 0, .freturn]),
  (51, [.iinc 2 1, .goto 2]),
  (57, [.iconst 1, .freturn])]
/-- M.rests -/
def bk_142 : List (Nat × List Instr) := [
  (0, [.aload 0, .iload 1, .invokevirtual 30621, .ifCond .eq 46, .aload 0, .iload 2, .invokevirtual 30621, .ifCond .eq 46, .iload 1, .iload 2, .if_icmp .eq 46, .iload 3, .i2l, .jsr 1, .jsr 20, .invokestatic 573, .ifCond .eq 46, .iload 4, .i2l, .jsr 0, .jsr 2, .invokestatic 573, .ifCond .ne 48, .goto_w 46]),
  (46, [.iconst (-1), .ireturn]),
  (48, [.aload 0, .iload 1, .iload 2, .iload 3, .invokevirtual 31403, .iconst 0, .istore 5, .iconst (-1), .istore 6, .iconst 0, .istore 7, .goto_w 64]),
  (64, [.iload 7, .iconst 25, .if_icmp .ge 103, .aload 0, .iload 7, .invokevirtual 31411, .ifCond .eq 97, .iload 5, .ifCond .ne 90, .iload 7, .goto 92]),
  (90, [.iload 6, .goto_w 92]),
  (92, [.istore 6, .iinc 5 1, .goto_w 97]),
  (97, [.iinc 7 1, .goto 64]),
  (103, [.iload 4, .ifCond .ne 111, .iload 5, .ireturn]),
  (111, [.iload 6, .iconst (-1), .if_icmp .ne 122, .iconst (-2), .goto 142]),
  (122, [.iconst 10, .iload 4, .iconst 1, .if_icmp .ne 137, .iload 6, .iconst 5, .idiv, .goto 141]),
  (137, [.iload 6, .iconst 5, .irem, .goto_w 141]),
  (141, [.imul, .goto_w 142]),
  (142, [.ireturn])]
/-- M.laysCourse -/
def bk_143 : List (Nat × List Instr) := [
  (0, [.iconst 0, .istore 1, .goto_w 2]),
  (2, [.iload 1, .iconst 66, .if_icmp .ge 31, .aload 0, .invokevirtual 31130, .pop, .aload 0, .invokeinterface 3 47, .iload 1, .aload 0, .invokeinterface 3 1, .iconst 5, .iaload, .iastore, .iinc 1 1, .goto 2]),
  (31, [.aload 0, .invokevirtual 31270, .return_])]
/-- M.areAlike -/
def bk_144 : List (Nat × List Instr) := [
  (0, [.iconst 0, .istore 3, .goto_w 2]),
  (2, [.iload 3, .iconst 6, .if_icmp .ge 35, .aload 0, .invokeinterface 3 47, .iload 1, .iload 3, .iadd, .iaload, .aload 0, .invokeinterface 3 47, .iload 2, .iload 3, .iadd, .iaload, .if_icmp .eq 29, .iconst 0, .freturn]),
  (29, [.iinc 3 1, .goto 2]),
  (35, [.iconst 1, .freturn])]
/-- M.ring -/
def bk_145 : List (Nat × List Instr) := [
  (0, [.aload 0, .invokevirtual 30600, .ifCond .eq 17, .iload 1, .i2l, .jsr 0, .jsr 1, .invokestatic 573, .ifCond .ne 19, .goto_w 17]),
  (17, [.iconst (-1), .ireturn]),
  (19, [.aload 0, .invokevirtual 31260, .aload 0, .invokevirtual 31430, .iconst 0, .istore 2, .goto_w 29]),
  (29, [.iload 2, .iconst 60, .if_icmp .ge 85, .iload 2, .iconst 1, .iadd, .istore 3, .goto_w 39]),
  (39, [.iload 3, .iconst 60, .if_icmp .gt 79, .aload 0, .iload 2, .iload 3, .invokevirtual 31442, .ifCond .eq 73, .iload 1, .ifCond .ne 69, .aload 0, .invokeinterface 3 1, .iconst 4, .iaload, .iload 2, .iadd, .goto 72]),
  (69, [.iload 3, .iload 2, .isub, .goto_w 72]),
  (72, [.ireturn]),
  (73, [.iinc 3 1, .goto 39]),
  (79, [.iinc 2 1, .goto 29]),
  (85, [.iconst (-2), .ireturn])]
/-- M.note -/
def bk_146 : List (Nat × List Instr) := [
  (0, [.iload 1, .iconst (-1), .if_icmp .ne 15, .aload 0, .invokeinterface 3 1, .iconst 8, .iconst 0, .iastore, .iconst 0, .ireturn]),
  (15, [.aload 0, .invokeinterface 3 1, .iconst 8, .iaload, .istore 3, .aload 0, .invokevirtual 30600, .ifCond .eq 61, .iload 1, .i2l, .jsr 0, .jsr 60, .invokestatic 573, .ifCond .eq 61, .iload 2, .iconst (-1), .if_icmp .eq 55, .aload 0, .iload 2, .invokevirtual 30611, .ifCond .eq 61, .goto_w 55]),
  (55, [.iload 3, .iconst 10, .if_icmp .ne 64, .goto_w 61]),
  (61, [.iconst (-2), .ireturn]),
  (64, [.aload 0, .invokeinterface 3 10, .iload 3, .iload 1, .iastore, .aload 0, .invokeinterface 3 11, .iload 3, .iload 2, .iastore, .aload 0, .invokeinterface 3 1, .iconst 8, .dup2, .iaload, .iconst 1, .iadd, .iastore, .iload 3, .iconst 1, .iadd, .ireturn])]
/-- M.couldRule -/
def bk_147 : List (Nat × List Instr) := [
  (0, [.aload 0, .invokeinterface 3 1, .iconst 10, .iload 1, .iastore, .aload 0, .invokevirtual 30950, .aload 0, .invokevirtual 31430, .iconst 0, .istore 2, .goto_w 18]),
  (18, [.iload 2, .aload 0, .invokeinterface 3 1, .iconst 8, .iaload, .if_icmp .ge 57, .aload 0, .invokeinterface 3 47, .aload 0, .invokeinterface 3 10, .iload 2, .iaload, .iaload, .aload 0, .invokeinterface 3 11, .iload 2, .iaload, .if_icmp .eq 51, .iconst 0, .freturn]),
  (51, [.iinc 2 1, .goto 18]),
  (57, [.iconst 1, .freturn])]
/-- M.ruled -/
def bk_148 : List (Nat × List Instr) := [
  (0, [.aload 0, .invokevirtual 30600, .ifCond .eq 17, .iload 1, .i2l, .jsr 0, .jsr 1, .invokestatic 573, .ifCond .ne 20, .goto_w 17]),
  (17, [.iconst (-3), .ireturn]),
  (20, [.aload 0, .invokevirtual 31260, .iconst 0, .istore 2, .iconst (-2), .istore 3, .iconst (-1), .istore 4, .goto_w 32]),
  (32, [.iload 4, .aload 0, .invokeinterface 3 23, .if_icmp .ge 70, .aload 0, .iload 4, .invokevirtual 31471, .ifCond .eq 64, .iload 2, .ifCond .ne 59, .iload 4, .goto 60]),
  (59, [.iload 3, .goto_w 60]),
  (60, [.istore 3, .iinc 2 1, .goto_w 64]),
  (64, [.iinc 4 1, .goto 32]),
  (70, [.iload 1, .ifCond .ne 78, .iload 2, .goto 79]),
  (78, [.iload 3, .goto_w 79]),
  (79, [.ireturn])]
/-- M.mostAlike -/
def bk_149 : List (Nat × List Instr) := [
  (0, [.iconst 0, .istore 3, .iconst 0, .istore 4, .goto_w 5]),
  (5, [.iload 4, .iload 2, .if_icmp .ge 85, .iconst 0, .istore 5, .iconst 0, .istore 6, .goto_w 17]),
  (17, [.iload 6, .iload 2, .if_icmp .ge 66, .iload 5, .aload 0, .invokeinterface 3 48, .iconst 61, .iload 6, .imul, .iload 1, .iadd, .iaload, .aload 0, .invokeinterface 3 48, .iconst 61, .iload 4, .imul, .iload 1, .iadd, .iaload, .if_icmp .ne 56, .iconst 1, .goto 57]),
  (56, [.iconst 0, .goto_w 57]),
  (57, [.iadd, .istore 5, .iinc 6 1, .goto 17]),
  (66, [.iload 5, .iload 3, .if_icmp .le 77, .iload 5, .goto 78]),
  (77, [.iload 3, .goto_w 78]),
  (78, [.istore 3, .iinc 4 1, .goto 5]),
  (85, [.iload 3, .ireturn])]
/-- M.look -/
def bk_150 : List (Nat × List Instr) := [
  (0, [.aload 0, .invokevirtual 30600, .ifCond .eq 17, .iload 1, .i2l, .jsr 0, .jsr 1, .invokestatic 573, .ifCond .ne 19, .goto_w 17]),
  (17, [.iconst (-1), .ireturn]),
  (19, [.aload 0, .invokevirtual 31260, .iconst 0, .istore 2, .iconst (-1), .istore 3, .goto_w 27]),
  (27, [.iload 3, .aload 0, .invokeinterface 3 23, .if_icmp .ge 87, .aload 0, .iload 3, .invokevirtual 31471, .ifCond .eq 81, .iconst 0, .istore 4, .goto_w 46]),
  (46, [.iload 4, .iconst 60, .if_icmp .gt 78, .aload 0, .invokeinterface 3 48, .iconst 61, .iload 2, .imul, .iload 4, .iadd, .aload 0, .invokeinterface 3 47, .iload 4, .iaload, .iastore, .iinc 4 1, .goto 46]),
  (78, [.iinc 2 1, .goto_w 81]),
  (81, [.iinc 3 1, .goto 27]),
  (87, [.iload 2, .ifCond .ne 94, .iconst (-2), .ireturn]),
  (94, [.iconst 0, .istore 3, .iconst 1, .istore 4, .goto_w 99]),
  (99, [.iload 4, .iconst 60, .if_icmp .gt 135, .aload 0, .iload 4, .iload 2, .invokevirtual 31492, .aload 0, .iload 3, .iload 2, .invokevirtual 31492, .if_icmp .ge 127, .iload 4, .goto 128]),
  (127, [.iload 3, .goto_w 128]),
  (128, [.istore 3, .iinc 4 1, .goto 99]),
  (135, [.iload 1, .ifCond .ne 143, .iload 3, .goto 149]),
  (143, [.aload 0, .iload 3, .iload 2, .invokevirtual 31492, .goto_w 149]),
  (149, [.ireturn])]
/-- M.seed -/
def bk_151 : List (Nat × List Instr) := [
  (0, [.iload 1, .ifCond .ge 6, .iconst (-1), .ireturn]),
  (6, [.aload 0, .invokeinterface 3 1, .iconst 9, .iaload, .istore 2, .aload 0, .invokeinterface 3 1, .iconst 9, .iload 1, .iastore, .iload 2, .ireturn])]
/-- M.draws -/
def bk_152 : List (Nat × List Instr) := [
  (0, [.aload 0, .invokeinterface 3 1, .iconst 9, .aload 0, .invokeinterface 3 1, .iconst 9, .iaload, .i2l, .jsr 1103515245, .lmul, .jsr 12345, .ladd, .jsr 2147483648, .lrem, .l2i, .iastore, .aload 0, .invokeinterface 3 1, .iconst 9, .iaload, .iconst 65536, .idiv, .iload 1, .irem, .ireturn])]
/-- M.allRank -/
def bk_153 : List (Nat × List Instr) := [
  (0, [.iconst 0, .istore 1, .iconst 0, .istore 2, .goto_w 4]),
  (4, [.iload 2, .aload 0, .invokeinterface 3 1, .iconst 3, .iaload, .if_icmp .ge 28, .iload 1, .aload 0, .iload 2, .invokevirtual 31071, .iadd, .istore 1, .iinc 2 1, .goto 4]),
  (28, [.iload 1, .ireturn])]
/-- M.years -/
def bk_154 : List (Nat × List Instr) := [
  (0, [.aload 0, .invokevirtual 30600, .ifCond .eq 54, .iload 1, .i2l, .jsr 1, .jsr 10, .invokestatic 573, .ifCond .eq 54, .iload 2, .i2l, .jsr 1, .jsr 60, .invokestatic 573, .ifCond .eq 54, .iload 3, .i2l, .jsr 0, .jsr 100, .invokestatic 573, .ifCond .eq 54, .iload 4, .i2l, .jsr 0, .jsr 1, .invokestatic 573, .ifCond .ne 56, .goto_w 54]),
  (54, [.iconst (-1), .ireturn]),
  (56, [.aload 0, .invokeinterface 3 1, .iconst 9, .iaload, .istore 5, .iload 5, .istore 6, .iconst 0, .istore 7, .iconst 0, .istore 8, .aload 0, .invokevirtual 31260, .iconst 0, .istore 9, .goto_w 82]),
  (82, [.iload 9, .iload 1, .if_icmp .ge 206, .aload 0, .invokeinterface 3 1, .iconst 9, .iload 6, .iastore, .iconst 0, .istore 10, .goto_w 100]),
  (100, [.iload 10, .iload 2, .if_icmp .ge 178, .aload 0, .iconst 100, .invokevirtual 31521, .iload 3, .if_icmp .ge 142, .aload 0, .invokeinterface 3 1, .iconst 2, .iaload, .ifCond .le 142, .aload 0, .invokeinterface 3 1, .iconst 6, .aload 0, .aload 0, .invokeinterface 3 1, .iconst 2, .iaload, .invokevirtual 31521, .iastore, .goto_w 142]),
  (142, [.aload 0, .invokevirtual 31130, .istore 11, .iload 7, .aload 0, .invokeinterface 3 1, .iconst 5, .iaload, .iconst (-1), .if_icmp .ne 164, .iconst 0, .goto 169]),
  (164, [.iload 11, .invokestatic 581, .goto_w 169]),
  (169, [.iadd, .istore 7, .iinc 10 1, .goto 100]),
  (178, [.iload 8, .aload 0, .invokevirtual 31530, .iadd, .istore 8, .aload 0, .invokeinterface 3 1, .iconst 9, .iaload, .istore 6, .aload 0, .invokevirtual 31270, .iinc 9 1, .goto 82]),
  (206, [.aload 0, .invokeinterface 3 1, .iconst 9, .iload 5, .iastore, .iload 4, .ifCond .ne 225, .iload 7, .goto 227]),
  (225, [.iload 8, .goto_w 227]),
  (227, [.ireturn])]
/-- M.count -/
def bk_155 : List (Nat × List Instr) := [
  (0, [.iload 1, .tableswitch 178 0 14 #[76, 83, 90, 97, 104, 109, 117, 124, 131, 139, 147, 152, 160, 165, 173]]),
  (76, [.aload 0, .invokeinterface 3 1, .iconst 0, .iaload, .ireturn]),
  (83, [.aload 0, .invokeinterface 3 1, .iconst 1, .iaload, .ireturn]),
  (90, [.aload 0, .invokeinterface 3 1, .iconst 2, .iaload, .ireturn]),
  (97, [.aload 0, .invokeinterface 3 1, .iconst 3, .iaload, .ireturn]),
  (104, [.aload 0, .invokeinterface 3 23, .ireturn]),
  (109, [.aload 0, .invokeinterface 3 1, .iconst 10, .iaload, .ireturn]),
  (117, [.aload 0, .invokeinterface 3 1, .iconst 4, .iaload, .ireturn]),
  (124, [.aload 0, .invokeinterface 3 1, .iconst 5, .iaload, .ireturn]),
  (131, [.aload 0, .invokeinterface 3 1, .iconst 6, .iaload, .ireturn]),
  (139, [.aload 0, .invokeinterface 3 1, .iconst 7, .iaload, .ireturn]),
  (147, [.aload 0, .invokevirtual 31090, .ireturn]),
  (152, [.aload 0, .invokeinterface 3 1, .iconst 8, .iaload, .ireturn]),
  (160, [.aload 0, .invokeinterface 3 41, .ireturn]),
  (165, [.aload 0, .invokeinterface 3 1, .iconst 9, .iaload, .ireturn]),
  (173, [.aload 0, .invokeinterface 3 19, .ireturn]),
  (178, [.iconst (-1), .ireturn])]
/-- M.carryRow -/
def bk_156 : List (Nat × List Instr) := [
  (0, [.iconst 0, .istore 2, .goto_w 2]),
  (2, [.iload 2, .aload 1, .arraylength, .if_icmp .ge 58, .aload 0, .invokeinterface 3 52, .ifCond .eq 30, .aload 1, .iload 2, .aload 0, .invokeinterface 3 49, .aload 0, .invokeinterface 3 51, .iaload, .iastore, .goto 42]),
  (30, [.aload 0, .invokeinterface 3 49, .aload 0, .invokeinterface 3 51, .aload 1, .iload 2, .iaload, .iastore, .goto_w 42]),
  (42, [.aload 0, .dup, .invokeinterface 3 51, .iconst 1, .iadd, .multianewarray 3 51, .iinc 2 1, .goto 2]),
  (58, [.return_])]
/-- M.carriesAll -/
def bk_157 : List (Nat × List Instr) := [
  (0, [.aload 0, .iconst 700, .iload 1, .imul, .multianewarray 3 51, .aload 0, .iload 2, .multianewarray 3 352, .aload 0, .aload 0, .invokeinterface 3 1, .invokevirtual 31561, .aload 0, .aload 0, .invokeinterface 3 4, .invokevirtual 31561, .aload 0, .aload 0, .invokeinterface 3 6, .invokevirtual 31561, .aload 0, .aload 0, .invokeinterface 3 8, .invokevirtual 31561, .aload 0, .aload 0, .invokeinterface 3 9, .invokevirtual 31561, .iload 1, .iconst 4, .if_icmp .ne 60, .return_]),
  (60, [.aload 0, .invokeinterface 3 40, .iconst 0, .aload 0, .invokeinterface 3 41, .iastore, .aload 0, .aload 0, .invokeinterface 3 40, .invokevirtual 31561, .aload 0, .aload 0, .invokeinterface 3 40, .iconst 0, .iaload, .multianewarray 3 41, .aload 0, .aload 0, .invokeinterface 3 2, .invokevirtual 31561, .aload 0, .aload 0, .invokeinterface 3 3, .invokevirtual 31561, .aload 0, .aload 0, .invokeinterface 3 5, .invokevirtual 31561, .aload 0, .aload 0, .invokeinterface 3 7, .invokevirtual 31561, .aload 0, .aload 0, .invokeinterface 3 10, .invokevirtual 31561, .aload 0, .aload 0, .invokeinterface 3 11, .invokevirtual 31561, .aload 0, .aload 0, .invokeinterface 3 12, .invokevirtual 31561, .aload 0, .aload 0, .invokeinterface 3 39, .invokevirtual 31561, .return_])]
/-- M.image -/
def bk_158 : List (Nat × List Instr) := [
  (0, [.iload 1, .i2l, .jsr 0, .jsr 3, .invokestatic 573, .ifCond .ne 14, .iconst (-1), .ireturn]),
  (14, [.aload 0, .invokeinterface 3 50, .iload 1, .iconst 1, .bastore, .aload 0, .iload 1, .iconst 0, .invokevirtual 31572, .aload 0, .invokeinterface 3 1, .iconst 4, .iaload, .ireturn])]
/-- M.back -/
def bk_159 : List (Nat × List Instr) := [
  (0, [.iload 1, .i2l, .jsr 0, .jsr 3, .invokestatic 573, .ifCond .eq 21, .aload 0, .invokeinterface 3 50, .iload 1, .baload, .ifCond .ne 23, .goto_w 21]),
  (21, [.iconst (-1), .ireturn]),
  (23, [.aload 0, .iload 1, .iconst 1, .invokevirtual 31572, .aload 0, .invokeinterface 3 1, .iconst 4, .iaload, .ireturn])]
/-- Both.init -/
def bk_160 : List (Nat × List Instr) := [
  (0, [.aload 0, .invokespecial 1920, .aload 0, .aload 1, .multianewarray 14 200, .aload 0, .iload 2, .multianewarray 14 302, .aload 0, .aload 3, .multianewarray 14 201, .return_])]
/-- Both.is -/
def bk_161 : List (Nat × List Instr) := [
  (0, [.aload 0, .invokeinterface 14 2, .ifCond .eq 37, .aload 0, .invokeinterface 14 0, .aload 1, .fload 11, .ifCond .eq 33, .aload 0, .invokeinterface 14 1, .aload 1, .fload 11, .ifCond .eq 33, .iconst 1, .goto 64]),
  (33, [.iconst 0, .goto 64]),
  (37, [.aload 0, .invokeinterface 14 0, .aload 1, .fload 11, .ifCond .ne 59, .aload 0, .invokeinterface 14 1, .aload 1, .fload 11, .ifCond .eq 63, .goto_w 59]),
  (59, [.iconst 1, .goto 64]),
  (63, [.iconst 0, .goto_w 64]),
  (64, [.freturn])]
/-- Clause.init -/
def bk_162 : List (Nat × List Instr) := [
  (0, [.aload 0, .monitorenter, .return_])]
/-- Clause.fits -/
def bk_163 : List (Nat × List Instr) := [
  (0, [.aload 0, .invokeinterface 6 1, .ifnull 18, .aload 0, .invokeinterface 6 1, .aload 1, .fload 11, .ifCond .eq 22, .goto_w 18]),
  (18, [.iconst 1, .goto 23]),
  (22, [.iconst 0, .goto_w 23]),
  (23, [.freturn])]
/-- Compare.init -/
def bk_164 : List (Nat × List Instr) := [
  (0, [.aload 0, .invokespecial 1920, .aload 0, .aload 1, .multianewarray 13 200, .aload 0, .iload 2, .multianewarray 13 2, .aload 0, .aload 3, .multianewarray 13 201, .return_])]
/-- Compare.is -/
def bk_165 : List (Nat × List Instr) := [
  (0, [.aload 0, .invokeinterface 13 0, .aload 1, .fload 1, .lstore 2, .aload 0, .invokeinterface 13 1, .aload 1, .fload 1, .lstore 4, .aload 0, .invokeinterface 13 2, .tableswitch 104 0 3 #[52, 65, 78, 91]]),
  (52, [.lload 2, .lload 4, .lcmp, .ifCond .ge 63, .iconst 1, .goto 64]),
  (63, [.iconst 0, .goto_w 64]),
  (64, [.freturn]),
  (65, [.lload 2, .lload 4, .lcmp, .ifCond .gt 76, .iconst 1, .goto 77]),
  (76, [.iconst 0, .goto_w 77]),
  (77, [.freturn]),
  (78, [.lload 2, .lload 4, .lcmp, .ifCond .ne 89, .iconst 1, .goto 90]),
  (89, [.iconst 0, .goto_w 90]),
  (90, [.freturn]),
  (91, [.lload 2, .lload 4, .lcmp, .ifCond .lt 102, .iconst 1, .goto 103]),
  (102, [.iconst 0, .goto_w 103]),
  (103, [.freturn]),
  (104, [.lload 2, .lload 4, .lcmp, .ifCond .le 115, .iconst 1, .goto 116]),
  (115, [.iconst 0, .goto_w 116]),
  (116, [.freturn])]
/-- Court.init -/
def bk_166 : List (Nat × List Instr) := [
  (0, [.aload 0, .monitorenter, .aload 0, .iconst 6, .newarray .int, .multianewarray 1 211, .aload 0, .iconst 12, .newarray .int, .multianewarray 1 212, .aload 0, .iconst 6, .newarray .int, .multianewarray 1 213, .aload 0, .iconst 6, .newarray .int, .multianewarray 1 214, .aload 0, .iconst 6, .newarray .int, .multianewarray 1 215, .aload 0, .iconst 20, .newarray .int, .multianewarray 1 216, .aload 0, .iconst 6, .newarray .int, .multianewarray 1 217, .aload 0, .iconst 6, .newarray .int, .multianewarray 1 218, .aload 0, .iconst 6, .newarray .int, .multianewarray 1 219, .aload 0, .iconst 6, .newarray .int, .multianewarray 1 220, .aload 0, .iconst 560, .newarray .int, .multianewarray 1 221, .aload 0, .iconst 12, .newarray .long, .multianewarray 1 222, .return_])]
/-- Court.copies -/
def bk_167 : List (Nat × List Instr) := [
  (0, [.aload 0, .aload 1, .invokeinterface 1 0, .multianewarray 1 0, .aload 0, .aload 1, .invokeinterface 1 1, .multianewarray 1 1, .aload 0, .aload 1, .invokeinterface 1 2, .multianewarray 1 2, .aload 0, .aload 1, .invokeinterface 1 3, .multianewarray 1 3, .aload 0, .aload 1, .invokeinterface 1 4, .multianewarray 1 4, .aload 0, .aload 1, .invokeinterface 1 5, .multianewarray 1 5, .aload 0, .aload 1, .invokeinterface 1 6, .multianewarray 1 6, .aload 1, .invokeinterface 1 11, .iconst 0, .aload 0, .invokeinterface 1 11, .iconst 0, .iconst 6, .monitorexit, .aload 1, .invokeinterface 1 12, .iconst 0, .aload 0, .invokeinterface 1 12, .iconst 0, .iconst 12, .monitorexit, .aload 1, .invokeinterface 1 13, .iconst 0, .aload 0, .invokeinterface 1 13, .iconst 0, .iconst 6, .monitorexit, .aload 1, .invokeinterface 1 14, .iconst 0, .aload 0, .invokeinterface 1 14, .iconst 0, .iconst 6, .monitorexit, .aload 1, .invokeinterface 1 15, .iconst 0, .aload 0, .invokeinterface 1 15, .iconst 0, .iconst 6, .monitorexit, .aload 1, .invokeinterface 1 16, .iconst 0, .aload 0, .invokeinterface 1 16, .iconst 0, .iconst 20, .monitorexit, .aload 1, .invokeinterface 1 21, .iconst 0, .aload 0, .invokeinterface 1 21, .iconst 0, .iconst 560, .monitorexit, .aload 0, .aload 1, .invokevirtual 11681, .areturn])]
/-- Court.standsAs -/
def bk_168 : List (Nat × List Instr) := [
  (0, [.aload 0, .aload 1, .invokeinterface 1 7, .multianewarray 1 7, .aload 0, .aload 1, .invokeinterface 1 8, .multianewarray 1 8, .aload 0, .aload 1, .invokeinterface 1 9, .multianewarray 1 9, .aload 0, .aload 1, .invokeinterface 1 10, .multianewarray 1 10, .aload 1, .invokeinterface 1 17, .iconst 0, .aload 0, .invokeinterface 1 17, .iconst 0, .iconst 6, .monitorexit, .aload 1, .invokeinterface 1 18, .iconst 0, .aload 0, .invokeinterface 1 18, .iconst 0, .iconst 6, .monitorexit, .aload 1, .invokeinterface 1 19, .iconst 0, .aload 0, .invokeinterface 1 19, .iconst 0, .iconst 6, .monitorexit, .aload 1, .invokeinterface 1 20, .iconst 0, .aload 0, .invokeinterface 1 20, .iconst 0, .iconst 6, .monitorexit, .aload 0, .areturn])]
/-- Court.lays -/
def bk_169 : List (Nat × List Instr) := [
  (0, [.iconst 28, .iload 1, .imul, .istore 2, .aload 0, .invokeinterface 1 21, .iload 2, .aload 0, .invokeinterface 1 7, .iastore, .aload 0, .invokeinterface 1 21, .iload 2, .iconst 1, .iadd, .aload 0, .invokeinterface 1 8, .iastore, .aload 0, .invokeinterface 1 21, .iload 2, .iconst 2, .iadd, .aload 0, .invokeinterface 1 9, .iastore, .aload 0, .invokeinterface 1 21, .iload 2, .iconst 3, .iadd, .aload 0, .invokeinterface 1 10, .iastore, .aload 0, .invokeinterface 1 17, .iconst 0, .aload 0, .invokeinterface 1 21, .iload 2, .iconst 4, .iadd, .iconst 6, .monitorexit, .aload 0, .invokeinterface 1 18, .iconst 0, .aload 0, .invokeinterface 1 21, .iload 2, .iconst 10, .iadd, .iconst 6, .monitorexit, .aload 0, .invokeinterface 1 19, .iconst 0, .aload 0, .invokeinterface 1 21, .iload 2, .iconst 16, .iadd, .iconst 6, .monitorexit, .aload 0, .invokeinterface 1 20, .iconst 0, .aload 0, .invokeinterface 1 21, .iload 2, .iconst 22, .iadd, .iconst 6, .monitorexit, .return_])]
/-- Court.takes -/
def bk_170 : List (Nat × List Instr) := [
  (0, [.iconst 28, .iload 1, .imul, .istore 2, .aload 0, .aload 0, .invokeinterface 1 21, .iload 2, .iaload, .multianewarray 1 7, .aload 0, .aload 0, .invokeinterface 1 21, .iload 2, .iconst 1, .iadd, .iaload, .multianewarray 1 8, .aload 0, .aload 0, .invokeinterface 1 21, .iload 2, .iconst 2, .iadd, .iaload, .multianewarray 1 9, .aload 0, .aload 0, .invokeinterface 1 21, .iload 2, .iconst 3, .iadd, .iaload, .multianewarray 1 10, .aload 0, .invokeinterface 1 21, .iload 2, .iconst 4, .iadd, .aload 0, .invokeinterface 1 17, .iconst 0, .iconst 6, .monitorexit, .aload 0, .invokeinterface 1 21, .iload 2, .iconst 10, .iadd, .aload 0, .invokeinterface 1 18, .iconst 0, .iconst 6, .monitorexit, .aload 0, .invokeinterface 1 21, .iload 2, .iconst 16, .iadd, .aload 0, .invokeinterface 1 19, .iconst 0, .iconst 6, .monitorexit, .aload 0, .invokeinterface 1 21, .iload 2, .iconst 22, .iadd, .aload 0, .invokeinterface 1 20, .iconst 0, .iconst 6, .monitorexit, .return_])]
/-- Court.begins -/
def bk_171 : List (Nat × List Instr) := [
  (0, [.aload 0, .iconst 0, .multianewarray 1 7, .aload 0, .iconst (-1), .multianewarray 1 8, .aload 0, .iconst (-1), .multianewarray 1 9, .aload 0, .iconst 0, .multianewarray 1 10, .iconst 0, .istore 1, .goto_w 22]),
  (22, [.iload 1, .iconst 6, .if_icmp .ge 41, .aload 0, .invokeinterface 1 17, .iload 1, .iconst 0, .iastore, .iinc 1 1, .goto 22]),
  (41, [.iconst 0, .istore 1, .goto_w 43]),
  (43, [.iload 1, .iconst 6, .if_icmp .ge 81, .aload 0, .invokeinterface 1 18, .iload 1, .aload 0, .invokeinterface 1 14, .iload 1, .iaload, .iastore, .aload 0, .invokeinterface 1 19, .iload 1, .iconst 0, .iastore, .aload 0, .invokeinterface 1 20, .iload 1, .iconst 0, .iastore, .iinc 1 1, .goto 43]),
  (81, [.return_])]
/-- Court.rankOf -/
def bk_172 : List (Nat × List Instr) := [
  (0, [.iconst 0, .istore 2, .iconst 0, .istore 3, .goto_w 4]),
  (4, [.iload 3, .aload 0, .invokeinterface 1 2, .if_icmp .ge 44, .iload 2, .aload 0, .invokeinterface 1 19, .iload 1, .iaload, .iload 3, .invokestatic 22, .ifCond .eq 35, .aload 0, .invokeinterface 1 11, .iload 3, .iaload, .goto 36]),
  (35, [.iconst 0, .goto_w 36]),
  (36, [.iadd, .istore 2, .iinc 3 1, .goto 4]),
  (44, [.iload 2, .ireturn])]
/-- Court.rankAll -/
def bk_173 : List (Nat × List Instr) := [
  (0, [.iconst 0, .istore 1, .iconst 0, .istore 2, .goto_w 4]),
  (4, [.iload 2, .aload 0, .invokeinterface 1 3, .if_icmp .ge 26, .iload 1, .aload 0, .iload 2, .invokevirtual 11721, .iadd, .istore 1, .iinc 2 1, .goto 4]),
  (26, [.iload 1, .ireturn])]
/-- Court.titled -/
def bk_174 : List (Nat × List Instr) := [
  (0, [.iconst 0, .istore 2, .iconst 0, .istore 3, .goto_w 4]),
  (4, [.iload 3, .aload 0, .invokeinterface 1 3, .if_icmp .ge 39, .iload 2, .aload 0, .invokeinterface 1 19, .iload 3, .iaload, .iload 1, .invokestatic 22, .ifCond .eq 30, .iconst 1, .goto 31]),
  (30, [.iconst 0, .goto_w 31]),
  (31, [.iadd, .istore 2, .iinc 3 1, .goto 4]),
  (39, [.iload 2, .ireturn])]
/-- Court.knights -/
def bk_175 : List (Nat × List Instr) := [
  (0, [.iconst 0, .istore 1, .iconst 0, .istore 2, .goto_w 4]),
  (4, [.iload 2, .aload 0, .invokeinterface 1 3, .if_icmp .ge 37, .iload 1, .aload 0, .invokeinterface 1 19, .iload 2, .iaload, .ifCond .eq 28, .iconst 1, .iload 2, .ishl, .goto 29]),
  (28, [.iconst 0, .goto_w 29]),
  (29, [.ior, .istore 1, .iinc 2 1, .goto 4]),
  (37, [.iload 1, .ireturn])]
/-- Court.thanked -/
def bk_176 : List (Nat × List Instr) := [
  (0, [.aload 0, .invokeinterface 1 18, .iload 1, .iconst 999, .aload 0, .invokeinterface 1 18, .iload 1, .iaload, .iload 2, .iadd, .nop, .iastore, .return_])]
/-- Court.sumOf -/
def bk_177 : List (Nat × List Instr) := [
  (0, [.iconst 0, .istore 3, .iconst 0, .istore 4, .iconst 0, .istore 5, .goto_w 8]),
  (8, [.iload 5, .aload 0, .invokeinterface 1 3, .if_icmp .ge 59, .iload 3, .aload 0, .invokeinterface 1 18, .iload 5, .iaload, .aload 0, .invokeinterface 1 1, .if_icmp .lt 36, .iconst 1, .goto 37]),
  (36, [.iconst 0, .goto_w 37]),
  (37, [.iadd, .istore 3, .iload 4, .aload 0, .invokeinterface 1 18, .iload 5, .iaload, .swap, .istore 4, .iinc 5 1, .goto 8]),
  (59, [.aload 0, .invokeinterface 1 22, .iconst 0, .iload 1, .i2l, .lastore, .aload 0, .invokeinterface 1 22, .iconst 1, .aload 0, .invokeinterface 1 11, .iload 1, .iaload, .i2l, .lastore, .aload 0, .invokeinterface 1 22, .iconst 2, .aload 0, .invokeinterface 1 7, .aload 0, .invokeinterface 1 0, .irem, .i2l, .lastore, .aload 0, .invokeinterface 1 22, .iconst 3, .aload 0, .invokeinterface 1 12, .aload 0, .invokeinterface 1 7, .aload 0, .invokeinterface 1 0, .irem, .iaload, .iload 1, .if_icmp .ne 123, .jsr 1, .goto 124]),
  (123, [.jsr 0, .goto_w 124]),
  (124, [.lastore, .aload 0, .invokeinterface 1 22, .iconst 4, .aload 0, .invokeinterface 1 8, .iload 1, .if_icmp .ne 142, .jsr 1, .goto 143]),
  (142, [.jsr 0, .goto_w 143]),
  (143, [.lastore, .aload 0, .invokeinterface 1 22, .iconst 5, .aload 0, .invokeinterface 1 17, .iload 1, .iaload, .i2l, .lastore, .aload 0, .invokeinterface 1 22, .iconst 6, .aload 0, .iload 1, .invokevirtual 11741, .i2l, .lastore, .aload 0, .invokeinterface 1 22, .iconst 7, .iload 3, .i2l, .lastore, .aload 0, .invokeinterface 1 22, .iconst 8, .aload 0, .invokevirtual 11750, .invokestatic 2271, .i2l, .lastore, .aload 0, .invokeinterface 1 22, .iconst 9, .iload 4, .i2l, .lastore, .aload 0, .invokeinterface 1 22, .iconst 10, .aload 0, .invokeinterface 1 3, .i2l, .lastore, .aload 0, .invokeinterface 1 22, .iconst 11, .aload 0, .invokeinterface 1 7, .i2l, .lastore, .aload 2, .aload 0, .invokeinterface 1 22, .invokevirtual 51911, .lreturn])]
/-- Court.inHand -/
def bk_178 : List (Nat × List Instr) := [
  (0, [.aload 0, .invokeinterface 1 10, .ifCond .le 9, .iconst (-1), .ireturn]),
  (9, [.aload 0, .invokeinterface 1 9, .iconst (-1), .if_icmp .eq 22, .aload 0, .invokeinterface 1 9, .ireturn]),
  (22, [.aload 1, .ifnonnull 41, .aload 0, .invokeinterface 1 12, .aload 0, .invokeinterface 1 7, .aload 0, .invokeinterface 1 0, .irem, .iaload, .ireturn]),
  (41, [.iconst (-1), .istore 2, .jsr 0, .lstore 3, .iconst 0, .istore 5, .goto_w 48]),
  (48, [.iload 5, .aload 0, .invokeinterface 1 2, .if_icmp .ge 88, .aload 0, .iload 5, .aload 1, .invokevirtual 11772, .lstore 6, .lload 6, .lload 3, .lcmp, .ifCond .gt 76, .goto 82]),
  (76, [.iload 5, .istore 2, .lload 6, .lstore 3, .goto_w 82]),
  (82, [.iinc 5 1, .goto 48]),
  (88, [.iload 2, .ireturn])]
/-- Court.dubs -/
def bk_179 : List (Nat × List Instr) := [
  (0, [.aload 0, .invokeinterface 1 8, .iconst (-1), .if_icmp .ne 21, .aload 0, .invokeinterface 1 20, .iload 1, .dup2, .iaload, .iconst 1, .iadd, .iastore, .goto 36]),
  (21, [.aload 0, .invokeinterface 1 19, .iload 1, .dup2, .iaload, .iconst 1, .aload 0, .invokeinterface 1 8, .ishl, .ior, .iastore, .goto_w 36]),
  (36, [.aload 0, .invokeinterface 1 18, .iload 1, .iconst 0, .iastore, .return_])]
/-- Court.passes -/
def bk_180 : List (Nat × List Instr) := [
  (0, [.aload 0, .aload 0, .aload 1, .invokevirtual 11781, .multianewarray 1 8, .aload 0, .invokeinterface 1 8, .iconst (-1), .if_icmp .eq 30, .aload 0, .invokeinterface 1 17, .aload 0, .invokeinterface 1 8, .dup2, .iaload, .iconst 1, .iadd, .iastore, .goto_w 30]),
  (30, [.aload 0, .iconst (-1), .multianewarray 1 9, .aload 0, .iconst 0, .aload 0, .invokeinterface 1 10, .iconst 1, .isub, .swap, .multianewarray 1 10, .iconst 0, .istore 2, .iconst 0, .istore 3, .goto_w 53]),
  (53, [.iload 3, .aload 0, .invokeinterface 1 3, .if_icmp .ge 78, .aload 0, .iload 3, .aload 0, .invokeinterface 1 15, .iload 3, .iaload, .invokevirtual 11762, .iinc 3 1, .goto 53]),
  (78, [.iconst 0, .istore 3, .goto_w 80]),
  (80, [.iload 3, .aload 0, .invokeinterface 1 3, .if_icmp .ge 121, .aload 0, .invokeinterface 1 18, .iload 3, .iaload, .aload 0, .invokeinterface 1 1, .if_icmp .ge 104, .goto 115]),
  (104, [.aload 0, .iload 3, .invokevirtual 11791, .iload 2, .iconst 1, .iload 3, .ishl, .ior, .istore 2, .goto_w 115]),
  (115, [.iinc 3 1, .goto 80]),
  (121, [.aload 0, .dup, .invokeinterface 1 7, .iconst 1, .iadd, .multianewarray 1 7, .iload 2, .ireturn])]
/-- Court.goesOn -/
def bk_181 : List (Nat × List Instr) := [
  (0, [.iconst 0, .istore 3, .goto_w 2]),
  (2, [.iload 3, .iload 1, .if_icmp .ge 19, .aload 0, .aload 2, .invokevirtual 11801, .pop, .iinc 3 1, .goto 2]),
  (19, [.aload 0, .areturn])]
/-- Fault.init -/
def bk_182 : List (Nat × List Instr) := [
  (0, [.aload 0, .ldc 0, .aconst_null, .iconst 0, .iconst 0, .invokespecial 2284, .return_])]
/-- Image.init -/
def bk_183 : List (Nat × List Instr) := [
  (0, [.aload 0, .monitorenter, .aload 0, .new 1, .dup, .invokespecial 1660, .multianewarray 15 200, .return_])]
/-- Not.init -/
def bk_184 : List (Nat × List Instr) := [
  (0, [.aload 0, .invokespecial 1920, .aload 0, .aload 1, .multianewarray 12 200, .return_])]
/-- Not.is -/
def bk_185 : List (Nat × List Instr) := [
  (0, [.aload 0, .invokeinterface 12 0, .aload 1, .fload 11, .ifCond .ne 15, .iconst 1, .goto 16]),
  (15, [.iconst 0, .goto_w 16]),
  (16, [.freturn])]
/-- Number.init -/
def bk_186 : List (Nat × List Instr) := [
  (0, [.aload 0, .invokespecial 2220, .aload 0, .lload 1, .multianewarray 8 100, .return_])]
/-- Number.of -/
def bk_187 : List (Nat × List Instr) := [
  (0, [.aload 0, .invokeinterface 8 0, .lreturn])]
/-- Pair.init -/
def bk_188 : List (Nat × List Instr) := [
  (0, [.aload 0, .invokespecial 2220, .aload 0, .aload 1, .multianewarray 10 200, .aload 0, .iload 2, .multianewarray 10 2, .aload 0, .aload 3, .multianewarray 10 201, .return_])]
/-- Pair.of -/
def bk_189 : List (Nat × List Instr) := [
  (0, [.aload 0, .invokeinterface 10 0, .aload 1, .fload 1, .lstore 2, .aload 0, .invokeinterface 10 1, .aload 1, .fload 1, .lstore 4, .aload 0, .invokeinterface 10 2, .tableswitch 103 37 45 #[87, 103, 103, 103, 103, 82, 72, 103, 77]]),
  (72, [.lload 2, .lload 4, .ladd, .lreturn]),
  (77, [.lload 2, .lload 4, .lsub, .lreturn]),
  (82, [.lload 2, .lload 4, .lmul, .lreturn]),
  (87, [.lload 4, .jsr 0, .lcmp, .ifCond .ne 98, .jsr 0, .goto 102]),
  (98, [.lload 2, .lload 4, .lrem, .goto_w 102]),
  (102, [.lreturn]),
  (103, [.lload 4, .jsr 0, .lcmp, .ifCond .ne 114, .jsr 0, .goto 118]),
  (114, [.lload 2, .lload 4, .ldiv, .goto_w 118]),
  (118, [.lreturn])]
/-- Rule.init -/
def bk_190 : List (Nat × List Instr) := [
  (0, [.aload 0, .monitorenter, .aload 0, .iconst 12, .anewarray 6, .multianewarray 5 200, .return_])]
/-- Rule.summed -/
def bk_191 : List (Nat × List Instr) := [
  (0, [.iconst 0, .istore 2, .goto_w 2]),
  (2, [.iload 2, .aload 0, .invokeinterface 5 1, .if_icmp .ge 43, .aload 0, .invokeinterface 5 0, .iload 2, .aaload, .aload 1, .invokevirtual 61631, .ifCond .eq 37, .aload 0, .invokeinterface 5 0, .iload 2, .aaload, .invokeinterface 6 0, .aload 1, .fload 1, .lreturn]),
  (37, [.iinc 2 1, .goto 2]),
  (43, [.jsr 0, .lreturn])]
/-- Test.init -/
def bk_192 : List (Nat × List Instr) := [
  (0, [.aload 0, .monitorenter, .return_])]
/-- Text.init -/
def bk_193 : List (Nat × List Instr) := [
  (0, [.aload 0, .aload 1, .multianewarray 4 206, .aload 0, .monitorenter, .aload 0, .aload 0, .invokeinterface 4 6, .invokeinterface 0 12, .multianewarray 4 200, .aload 0, .aload 0, .invokeinterface 4 6, .invokeinterface 0 3, .multianewarray 4 201, .return_])]
/-- Text.demand -/
def bk_194 : List (Nat × List Instr) := [
  (0, [.iload 1, .ifCond .eq 5, .return_]),
  (5, [.aload 0, .invokeinterface 4 6, .invokeinterface 0 7, .iload 2, .multianewarray 2 6, .aload 0, .invokeinterface 4 6, .invokeinterface 0 7, .iload 3, .multianewarray 2 7, .aload 0, .invokeinterface 4 6, .invokeinterface 0 7, .athrow])]
/-- Text.see -/
def bk_195 : List (Nat × List Instr) := [
  (0, [.aload 0, .invokeinterface 4 2, .aload 0, .invokeinterface 4 6, .invokeinterface 0 9, .if_icmp .ge 44, .aload 0, .invokeinterface 4 6, .invokeinterface 0 8, .aload 0, .invokeinterface 4 2, .baload, .iconst 32, .if_icmp .ne 44, .aload 0, .dup, .invokeinterface 4 2, .iconst 1, .iadd, .multianewarray 4 2, .goto 0]),
  (44, [.aload 0, .invokeinterface 4 2, .aload 0, .invokeinterface 4 6, .invokeinterface 0 9, .if_icmp .ge 77, .aload 0, .invokeinterface 4 6, .invokeinterface 0 8, .aload 0, .invokeinterface 4 2, .baload, .iconst 255, .iand, .goto 78]),
  (77, [.iconst (-1), .goto_w 78]),
  (78, [.ireturn])]
/-- Text.takesSign -/
def bk_196 : List (Nat × List Instr) := [
  (0, [.aload 0, .invokevirtual 41950, .iload 1, .if_icmp .eq 10, .iconst 0, .freturn]),
  (10, [.aload 0, .dup, .invokeinterface 4 2, .iconst 1, .iadd, .multianewarray 4 2, .iconst 1, .freturn])]
/-- Text.letters -/
def bk_197 : List (Nat × List Instr) := [
  (0, [.aload 0, .invokevirtual 41950, .pop, .iconst 0, .istore 1, .goto_w 7]),
  (7, [.aload 0, .invokeinterface 4 2, .iload 1, .iadd, .aload 0, .invokeinterface 4 6, .invokeinterface 0 9, .if_icmp .ge 67, .aload 0, .invokeinterface 4 6, .invokeinterface 0 8, .aload 0, .invokeinterface 4 2, .iload 1, .iadd, .baload, .iconst 97, .if_icmp .lt 67, .aload 0, .invokeinterface 4 6, .invokeinterface 0 8, .aload 0, .invokeinterface 4 2, .iload 1, .iadd, .baload, .iconst 122, .if_icmp .gt 67, .iinc 1 1, .goto 7]),
  (67, [.iload 1, .ireturn])]
/-- Text.isWord -/
def bk_198 : List (Nat × List Instr) := [
  (0, [.aload 0, .invokevirtual 41970, .istore 2, .iload 2, .aload 1, .invokevirtual 192330, .if_icmp .ne 17, .iconst 1, .goto 18]),
  (17, [.iconst 0, .goto_w 18]),
  (18, [.istore 3, .iconst 0, .istore 4, .goto_w 22]),
  (22, [.iload 3, .ifCond .eq 68, .iload 4, .iload 2, .if_icmp .ge 68, .aload 1, .iload 4, .invokevirtual 192291, .aload 0, .invokeinterface 4 6, .invokeinterface 0 8, .aload 0, .invokeinterface 4 2, .iload 4, .iadd, .baload, .if_icmp .ne 60, .iconst 1, .goto 61]),
  (60, [.iconst 0, .goto_w 61]),
  (61, [.istore 3, .iinc 4 1, .goto 22]),
  (68, [.iload 3, .freturn])]
/-- Text.takesWord -/
def bk_199 : List (Nat × List Instr) := [
  (0, [.aload 0, .aload 1, .invokevirtual 41981, .ifCond .ne 10, .iconst 0, .freturn]),
  (10, [.aload 0, .dup, .invokeinterface 4 2, .aload 1, .invokevirtual 192330, .iadd, .multianewarray 4 2, .iconst 1, .freturn])]
/-- Text.oneOf -/
def bk_200 : List (Nat × List Instr) := [
  (0, [.iconst 0, .istore 2, .goto_w 2]),
  (2, [.iload 2, .aload 1, .arraylength, .if_icmp .ge 26, .aload 0, .aload 1, .iload 2, .aaload, .invokevirtual 41981, .ifCond .eq 20, .iload 2, .ireturn]),
  (20, [.iinc 2 1, .goto 2]),
  (26, [.iconst (-1), .ireturn])]
/-- Text.isDigit -/
def bk_201 : List (Nat × List Instr) := [
  (0, [.iload 1, .aload 0, .invokeinterface 4 6, .invokeinterface 0 9, .if_icmp .ge 43, .aload 0, .invokeinterface 4 6, .invokeinterface 0 8, .iload 1, .baload, .iconst 48, .if_icmp .lt 43, .aload 0, .invokeinterface 4 6, .invokeinterface 0 8, .iload 1, .baload, .iconst 57, .if_icmp .gt 43, .iconst 1, .goto 44]),
  (43, [.iconst 0, .goto_w 44]),
  (44, [.freturn])]
/-- Text.number -/
def bk_202 : List (Nat × List Instr) := [
  (0, [.aload 0, .invokevirtual 41950, .pop, .aload 0, .invokeinterface 4 2, .istore 3, .aload 0, .aload 0, .iload 3, .invokevirtual 42011, .iconst 0, .iload 3, .invokevirtual 41943, .iconst 0, .istore 4, .goto_w 24]),
  (24, [.aload 0, .aload 0, .invokeinterface 4 2, .invokevirtual 42011, .ifCond .eq 81, .aload 0, .invokeinterface 4 2, .iload 3, .isub, .iconst 5, .if_icmp .ge 68, .iconst 10, .iload 4, .imul, .aload 0, .invokeinterface 4 6, .invokeinterface 0 8, .aload 0, .invokeinterface 4 2, .baload, .iadd, .iconst 48, .isub, .istore 4, .goto_w 68]),
  (68, [.aload 0, .dup, .invokeinterface 4 2, .iconst 1, .iadd, .multianewarray 4 2, .goto 24]),
  (81, [.aload 0, .aload 0, .invokeinterface 4 2, .iload 3, .isub, .iconst 5, .if_icmp .gt 109, .iload 4, .i2l, .iload 1, .i2l, .iload 2, .i2l, .invokestatic 13, .ifCond .eq 109, .iconst 1, .goto 110]),
  (109, [.iconst 0, .goto_w 110]),
  (110, [.iconst 1, .iload 3, .invokevirtual 41943, .iload 4, .ireturn])]
/-- Text.makes -/
def bk_203 : List (Nat × List Instr) := [
  (0, [.aload 0, .aload 0, .invokeinterface 4 4, .iconst 60, .if_icmp .ge 14, .iconst 1, .goto 15]),
  (14, [.iconst 0, .goto_w 15]),
  (15, [.iconst 3, .iload 1, .invokevirtual 41943, .aload 0, .dup, .invokeinterface 4 4, .iconst 1, .iadd, .multianewarray 4 4, .return_])]
/-- Text.opens -/
def bk_204 : List (Nat × List Instr) := [
  (0, [.aload 0, .aload 0, .invokeinterface 4 3, .iconst 10, .if_icmp .ge 14, .iconst 1, .goto 15]),
  (14, [.iconst 0, .goto_w 15]),
  (15, [.iconst 2, .iload 1, .invokevirtual 41943, .aload 0, .dup, .invokeinterface 4 3, .iconst 1, .iadd, .multianewarray 4 3, .return_])]
/-- Text.ends -/
def bk_205 : List (Nat × List Instr) := [
  (0, [.aload 0, .aload 0, .invokevirtual 41950, .iconst (-1), .if_icmp .ne 13, .iconst 1, .goto 14]),
  (13, [.iconst 0, .goto_w 14]),
  (14, [.iconst 0, .aload 0, .invokeinterface 4 2, .invokevirtual 41943, .return_])]
/-- Text.canBe -/
def bk_206 : List (Nat × List Instr) := [
  (0, [.aload 0, .invokeinterface 4 5, .iconst 40, .if_icmp .ge 36, .iload 1, .ifCond .ne 17, .iconst 1, .goto 18]),
  (17, [.iconst 0, .goto_w 18]),
  (18, [.aload 0, .invokeinterface 4 1, .invokeinterface 1 6, .ifCond .ne 32, .iconst 1, .goto 33]),
  (32, [.iconst 0, .goto_w 33]),
  (33, [.if_icmp .eq 38, .goto_w 36]),
  (36, [.iconst 0, .freturn]),
  (38, [.iload 1, .iconst 1, .if_icmp .ne 63, .aload 0, .invokeinterface 4 1, .invokeinterface 1 2, .iconst 6, .if_icmp .ge 59, .iconst 1, .goto 85]),
  (59, [.iconst 0, .goto 85]),
  (63, [.iload 1, .iconst 3, .if_icmp .ne 80, .aload 0, .invokeinterface 4 1, .invokeinterface 1 3, .iconst 6, .if_icmp .ge 84, .goto_w 80]),
  (80, [.iconst 1, .goto 85]),
  (84, [.iconst 0, .goto_w 85]),
  (85, [.freturn])]
/-- Text.thingNumber -/
def bk_207 : List (Nat × List Instr) := [
  (0, [.aload 0, .iconst 0, .aload 0, .invokeinterface 4 1, .invokeinterface 1 2, .iconst 1, .isub, .invokevirtual 42022, .ireturn])]
/-- Text.courtHere -/
def bk_208 : List (Nat × List Instr) := [
  (0, [.aload 0, .invokeinterface 4 1, .aload 0, .iconst 1, .iconst 12, .invokevirtual 42022, .multianewarray 1 0, .aload 0, .invokeinterface 4 1, .aload 0, .iconst 1, .iconst 99, .invokevirtual 42022, .multianewarray 1 1, .aload 0, .invokeinterface 4 1, .iconst 1, .multianewarray 1 6, .iconst 0, .istore 1, .goto_w 38]),
  (38, [.iload 1, .iconst 12, .if_icmp .ge 60, .aload 0, .invokeinterface 4 1, .invokeinterface 1 12, .iload 1, .iconst (-1), .iastore, .iinc 1 1, .goto 38]),
  (60, [.return_])]
/-- Text.personHere -/
def bk_209 : List (Nat × List Instr) := [
  (0, [.aload 0, .invokeinterface 4 1, .invokeinterface 1 3, .istore 1, .aload 0, .invokeinterface 4 1, .invokeinterface 1 14, .iload 1, .aload 0, .iconst 0, .iconst 99, .invokevirtual 42022, .iastore, .aload 0, .invokeinterface 4 1, .invokeinterface 1 15, .iload 1, .aload 0, .iconst 0, .iconst 9, .invokevirtual 42022, .iastore, .aload 0, .invokeinterface 4 1, .dup, .invokeinterface 1 3, .iconst 1, .iadd, .multianewarray 1 3, .return_])]
/-- Text.quarrelHere -/
def bk_210 : List (Nat × List Instr) := [
  (0, [.aload 0, .invokevirtual 42070, .istore 1, .aload 0, .invokevirtual 41950, .pop, .aload 0, .invokeinterface 4 2, .istore 2, .aload 0, .invokevirtual 42070, .istore 3, .aload 0, .iload 1, .iload 3, .if_icmp .eq 30, .iconst 1, .goto 31]),
  (30, [.iconst 0, .goto_w 31]),
  (31, [.iconst 1, .iload 2, .invokevirtual 41943, .aload 0, .invokeinterface 4 1, .invokeinterface 1 13, .iload 1, .dup2, .iaload, .iconst 1, .iload 3, .ishl, .ior, .iastore, .aload 0, .invokeinterface 4 1, .invokeinterface 1 13, .iload 3, .dup2, .iaload, .iconst 1, .iload 1, .ishl, .ior, .iastore, .return_])]
/-- Text.line -/
def bk_211 : List (Nat × List Instr) := [
  (0, [.iload 1, .tableswitch 107 0 3 #[32, 37, 73, 102]]),
  (32, [.aload 0, .invokevirtual 42080, .return_]),
  (37, [.aload 0, .invokeinterface 4 1, .invokeinterface 1 11, .aload 0, .invokeinterface 4 1, .invokeinterface 1 2, .aload 0, .iconst 0, .iconst 20, .invokevirtual 42022, .iastore, .aload 0, .invokeinterface 4 1, .dup, .invokeinterface 1 2, .iconst 1, .iadd, .multianewarray 1 2, .return_]),
  (73, [.aload 0, .iconst 0, .aload 0, .invokeinterface 4 1, .invokeinterface 1 0, .iconst 1, .isub, .invokevirtual 42022, .istore 2, .aload 0, .invokeinterface 4 1, .invokeinterface 1 12, .iload 2, .aload 0, .invokevirtual 42070, .iastore, .return_]),
  (102, [.aload 0, .invokevirtual 42090, .return_]),
  (107, [.aload 0, .invokevirtual 42100, .return_])]
/-- Text.courtTold -/
def bk_212 : List (Nat × List Instr) := [
  (0, [.aload 0, .invokeinterface 4 1, .aload 0, .invokeinterface 4 6, .invokeinterface 0 4, .invokevirtual 11671, .pop, .goto_w 15]),
  (15, [.aload 0, .invokevirtual 41950, .pop, .aload 0, .invokeinterface 4 2, .istore 1, .aload 0, .aload 0, .invokeinterface 4 6, .invokeinterface 0 10, .invokevirtual 42001, .istore 2, .aload 0, .iload 2, .iconst (-1), .if_icmp .eq 47, .iconst 1, .goto 48]),
  (47, [.iconst 0, .goto_w 48]),
  (48, [.iconst 0, .iload 1, .invokevirtual 41943, .aload 0, .aload 0, .iload 2, .invokevirtual 42061, .iconst 4, .iload 1, .invokevirtual 41943, .aload 0, .dup, .invokeinterface 4 5, .iconst 1, .iadd, .multianewarray 4 5, .aload 0, .dup, .invokeinterface 4 2, .aload 0, .invokeinterface 4 6, .invokeinterface 0 10, .iload 2, .aaload, .invokevirtual 192330, .iadd, .multianewarray 4 2, .aload 0, .iload 2, .invokevirtual 42111, .aload 0, .iconst 59, .invokevirtual 41961, .ifCond .ne 15, .aload 0, .invokevirtual 42050, .aload 0, .invokeinterface 4 1, .invokevirtual 11710, .aload 0, .invokeinterface 4 1, .areturn])]
/-- Text.clauseHere -/
def bk_213 : List (Nat × List Instr) := [
  (0, [.new 6, .dup, .invokespecial 1620, .astore 1, .aload 1, .aload 0, .invokevirtual 42190, .multianewarray 6 200, .aload 1, .aload 0, .ldc 18, .invokevirtual 41991, .ifCond .eq 33, .aload 0, .invokevirtual 42150, .goto 34]),
  (33, [.aconst_null, .goto_w 34]),
  (34, [.multianewarray 6 201, .aload 1, .areturn])]
/-- Text.ruleTold -/
def bk_214 : List (Nat × List Instr) := [
  (0, [.new 5, .dup, .invokespecial 1900, .astore 1, .goto_w 8]),
  (8, [.aload 0, .invokevirtual 41950, .pop, .aload 0, .invokeinterface 4 2, .istore 2, .aload 0, .aload 0, .aload 0, .invokeinterface 4 6, .invokeinterface 0 11, .invokevirtual 42001, .ifCond .ne 37, .iconst 1, .goto 38]),
  (37, [.iconst 0, .goto_w 38]),
  (38, [.iconst 0, .iload 2, .invokevirtual 41943, .aload 0, .aload 0, .invokeinterface 4 5, .iconst 12, .if_icmp .ge 57, .iconst 1, .goto 58]),
  (57, [.iconst 0, .goto_w 58]),
  (58, [.iconst 4, .iload 2, .invokevirtual 41943, .aload 0, .dup, .invokeinterface 4 5, .iconst 1, .iadd, .multianewarray 4 5, .aload 0, .dup, .invokeinterface 4 2, .iconst 4, .iadd, .multianewarray 4 2, .aload 1, .invokeinterface 5 0, .aload 1, .invokeinterface 5 1, .aload 0, .invokevirtual 42130, .aastore, .aload 1, .dup, .invokeinterface 5 1, .iconst 1, .iadd, .multianewarray 5 1, .aload 0, .iconst 59, .invokevirtual 41961, .ifCond .ne 8, .aload 0, .invokevirtual 42050, .aload 1, .areturn])]
/-- Text.tested -/
def bk_215 : List (Nat × List Instr) := [
  (0, [.aload 0, .invokevirtual 42160, .astore 1, .goto_w 5]),
  (5, [.aload 0, .ldc 21, .invokevirtual 41991, .ifCond .eq 31, .new 14, .dup, .aload 1, .iconst 0, .aload 0, .invokevirtual 42160, .invokespecial 1603, .astore 1, .goto 5]),
  (31, [.aload 1, .areturn])]
/-- Text.parted -/
def bk_216 : List (Nat × List Instr) := [
  (0, [.aload 0, .invokevirtual 42170, .astore 1, .goto_w 5]),
  (5, [.aload 0, .ldc 20, .invokevirtual 41991, .ifCond .eq 31, .new 14, .dup, .aload 1, .iconst 1, .aload 0, .invokevirtual 42170, .invokespecial 1603, .astore 1, .goto 5]),
  (31, [.aload 1, .areturn])]
/-- Text.fact -/
def bk_217 : List (Nat × List Instr) := [
  (0, [.aload 0, .invokevirtual 41950, .istore 1, .aload 0, .invokeinterface 4 2, .istore 2, .aload 0, .ldc 19, .invokevirtual 41981, .ifCond .eq 58, .aload 0, .iload 2, .invokevirtual 42041, .aload 0, .dup, .invokeinterface 4 2, .iconst 3, .iadd, .multianewarray 4 2, .new 12, .dup, .aload 0, .invokevirtual 42170, .invokespecial 1841, .astore 3, .aload 0, .dup, .invokeinterface 4 3, .iconst 1, .isub, .multianewarray 4 3, .aload 3, .areturn]),
  (58, [.iload 1, .iconst 91, .if_icmp .ne 111, .aload 0, .iload 2, .invokevirtual 42041, .aload 0, .dup, .invokeinterface 4 2, .iconst 1, .iadd, .multianewarray 4 2, .aload 0, .invokevirtual 42150, .astore 3, .aload 0, .aload 0, .iconst 93, .invokevirtual 41961, .iconst 0, .aload 0, .invokeinterface 4 2, .invokevirtual 41943, .aload 0, .dup, .invokeinterface 4 3, .iconst 1, .isub, .multianewarray 4 3, .aload 3, .areturn]),
  (111, [.aload 0, .invokevirtual 42190, .astore 3, .aload 0, .invokevirtual 41950, .pop, .aload 0, .invokeinterface 4 2, .istore 4, .aload 0, .invokevirtual 42180, .istore 5, .aload 0, .iload 4, .invokevirtual 42031, .new 13, .dup, .aload 3, .iload 5, .aload 0, .invokevirtual 42190, .invokespecial 1643, .areturn])]
/-- Text.sign -/
def bk_218 : List (Nat × List Instr) := [
  (0, [.aload 0, .invokevirtual 41950, .istore 1, .aload 0, .iload 1, .iconst 60, .if_icmp .eq 24, .iload 1, .iconst 61, .if_icmp .eq 24, .iload 1, .iconst 62, .if_icmp .ne 28, .goto_w 24]),
  (24, [.iconst 1, .goto 29]),
  (28, [.iconst 0, .goto_w 29]),
  (29, [.iconst 0, .aload 0, .invokeinterface 4 2, .invokevirtual 41943, .aload 0, .dup, .invokeinterface 4 2, .iconst 1, .iadd, .multianewarray 4 2, .iload 1, .iconst 61, .if_icmp .ne 55, .iconst 2, .ireturn]),
  (55, [.aload 0, .invokeinterface 4 2, .aload 0, .invokeinterface 4 6, .invokeinterface 0 9, .if_icmp .ge 90, .aload 0, .invokeinterface 4 6, .invokeinterface 0 8, .aload 0, .invokeinterface 4 2, .baload, .iconst 61, .if_icmp .ne 90, .iconst 1, .goto 91]),
  (90, [.iconst 0, .goto_w 91]),
  (91, [.istore 2, .iload 2, .ifCond .eq 106, .aload 0, .dup, .invokeinterface 4 2, .iconst 1, .iadd, .multianewarray 4 2, .goto_w 106]),
  (106, [.iload 1, .iconst 60, .if_icmp .ne 124, .iload 2, .ifCond .eq 120, .iconst 1, .goto 133]),
  (120, [.iconst 0, .goto 133]),
  (124, [.iload 2, .ifCond .eq 132, .iconst 3, .goto 133]),
  (132, [.iconst 4, .goto_w 133]),
  (133, [.ireturn])]
/-- Text.sum -/
def bk_219 : List (Nat × List Instr) := [
  (0, [.aload 0, .invokevirtual 42200, .astore 1, .goto_w 5]),
  (5, [.aload 0, .invokevirtual 41950, .iconst 43, .if_icmp .eq 23, .aload 0, .invokevirtual 41950, .iconst 45, .if_icmp .ne 63, .goto_w 23]),
  (23, [.aload 0, .invokeinterface 4 6, .invokeinterface 0 8, .aload 0, .invokeinterface 4 2, .baload, .istore 2, .aload 0, .dup, .invokeinterface 4 2, .iconst 1, .iadd, .multianewarray 4 2, .new 10, .dup, .aload 1, .iload 2, .aload 0, .invokevirtual 42200, .invokespecial 1883, .astore 1, .goto 5]),
  (63, [.aload 1, .areturn])]
/-- Text.term -/
def bk_220 : List (Nat × List Instr) := [
  (0, [.aload 0, .invokevirtual 42210, .astore 1, .goto_w 5]),
  (5, [.aload 0, .invokevirtual 41950, .iconst 42, .if_icmp .eq 32, .aload 0, .invokevirtual 41950, .iconst 47, .if_icmp .eq 32, .aload 0, .invokevirtual 41950, .iconst 37, .if_icmp .ne 72, .goto_w 32]),
  (32, [.aload 0, .invokeinterface 4 6, .invokeinterface 0 8, .aload 0, .invokeinterface 4 2, .baload, .istore 2, .aload 0, .dup, .invokeinterface 4 2, .iconst 1, .iadd, .multianewarray 4 2, .new 10, .dup, .aload 1, .iload 2, .aload 0, .invokevirtual 42210, .invokespecial 1883, .astore 1, .goto 5]),
  (72, [.aload 1, .areturn])]
/-- Text.value -/
def bk_221 : List (Nat × List Instr) := [
  (0, [.aload 0, .invokevirtual 41950, .pop, .aload 0, .invokeinterface 4 2, .istore 1, .aload 0, .iload 1, .invokevirtual 42011, .ifCond .eq 41, .aload 0, .iconst 0, .iconst 99999, .invokevirtual 42022, .istore 2, .aload 0, .iload 1, .invokevirtual 42031, .new 8, .dup, .iload 2, .i2l, .invokespecial 1861, .areturn]),
  (41, [.aload 0, .aload 0, .invokeinterface 4 0, .invokevirtual 42001, .istore 2, .aload 0, .iload 2, .iconst (-1), .if_icmp .eq 60, .iconst 1, .goto 61]),
  (60, [.iconst 0, .goto_w 61]),
  (61, [.iconst 0, .iload 1, .invokevirtual 41943, .aload 0, .iload 1, .invokevirtual 42031, .aload 0, .dup, .invokeinterface 4 2, .aload 0, .invokeinterface 4 0, .iload 2, .aaload, .invokevirtual 192330, .iadd, .multianewarray 4 2, .new 9, .dup, .iload 2, .invokespecial 2231, .areturn])]
/-- Value.init -/
def bk_222 : List (Nat × List Instr) := [
  (0, [.aload 0, .monitorenter, .return_])]
/-- Word.init -/
def bk_223 : List (Nat × List Instr) := [
  (0, [.aload 0, .invokespecial 2220, .aload 0, .iload 1, .multianewarray 9 0, .return_])]
/-- Word.of -/
def bk_224 : List (Nat × List Instr) := [
  (0, [.aload 1, .aload 0, .invokeinterface 9 0, .laload, .lreturn])]
/-- Law.law -/
def bk_225 : List (Nat × List Instr) := [
  (0, [.new 0, .dup, .invokespecial 30, .astore 1, .new 3, .dup, .invokespecial 560, .astore 2, .iconst 0, .istore 3, .goto_w 18]),
  (18, [.iload 3, .aload 0, .arraylength, .iconst 6, .isub, .if_icmp .gt 1202, .aload 0, .iload 3, .iaload, .iconst 63, .iand, .tableswitch 1196 0 33 #[184, 247, 270, 283, 296, 319, 352, 375, 408, 421, 454, 487, 510, 533, 566, 579, 622, 655, 698, 741, 784, 817, 840, 863, 896, 949, 972, 1005, 1028, 1051, 1074, 1127, 1150, 1173]]),
  (184, [.aload 1, .aload 0, .iload 3, .iconst 1, .iadd, .iaload, .aload 0, .iload 3, .iconst 2, .iadd, .iaload, .aload 0, .iload 3, .iconst 3, .iadd, .iaload, .aload 0, .iload 3, .iconst 4, .iadd, .iaload, .aload 0, .iload 3, .iconst 5, .iadd, .iaload, .invokevirtual 45, .aload 2, .aload 0, .iload 3, .iconst 1, .iadd, .iaload, .aload 0, .iload 3, .iconst 2, .iadd, .iaload, .aload 0, .iload 3, .iconst 3, .iadd, .iaload, .aload 0, .iload 3, .iconst 4, .iadd, .iaload, .aload 0, .iload 3, .iconst 5, .iadd, .iaload, .invokevirtual 30635, .if_icmp .eq 1196, .iconst 0, .freturn]),
  (247, [.aload 1, .aload 0, .iload 3, .iconst 1, .iadd, .iaload, .invokevirtual 61, .aload 2, .aload 0, .iload 3, .iconst 1, .iadd, .iaload, .invokevirtual 30651, .if_icmp .eq 1196, .iconst 0, .freturn]),
  (270, [.aload 1, .invokevirtual 80, .aload 2, .invokevirtual 30960, .if_icmp .eq 1196, .iconst 0, .freturn]),
  (283, [.aload 1, .invokevirtual 90, .aload 2, .invokevirtual 30980, .if_icmp .eq 1196, .iconst 0, .freturn]),
  (296, [.aload 1, .aload 0, .iload 3, .iconst 1, .iadd, .iaload, .invokevirtual 101, .aload 2, .aload 0, .iload 3, .iconst 1, .iadd, .iaload, .invokevirtual 30991, .if_icmp .eq 1196, .iconst 0, .freturn]),
  (319, [.aload 1, .aload 0, .iload 3, .iconst 1, .iadd, .iaload, .aload 0, .iload 3, .iconst 2, .iadd, .iaload, .invokevirtual 142, .aload 2, .aload 0, .iload 3, .iconst 1, .iadd, .iaload, .aload 0, .iload 3, .iconst 2, .iadd, .iaload, .invokevirtual 31052, .if_icmp .eq 1196, .iconst 0, .freturn]),
  (352, [.aload 1, .aload 0, .iload 3, .iconst 1, .iadd, .iaload, .invokevirtual 151, .aload 2, .aload 0, .iload 3, .iconst 1, .iadd, .iaload, .invokevirtual 31061, .if_icmp .eq 1196, .iconst 0, .freturn]),
  (375, [.aload 1, .aload 0, .iload 3, .iconst 1, .iadd, .iaload, .aload 0, .iload 3, .iconst 2, .iadd, .iaload, .invokevirtual 162, .aload 2, .aload 0, .iload 3, .iconst 1, .iadd, .iaload, .aload 0, .iload 3, .iconst 2, .iadd, .iaload, .invokevirtual 31082, .if_icmp .eq 1196, .iconst 0, .freturn]),
  (408, [.aload 1, .invokevirtual 190, .aload 2, .invokevirtual 31200, .if_icmp .eq 1196, .iconst 0, .freturn]),
  (421, [.aload 1, .aload 0, .iload 3, .iconst 1, .iadd, .iaload, .aload 0, .iload 3, .iconst 2, .iadd, .iaload, .invokevirtual 202, .aload 2, .aload 0, .iload 3, .iconst 1, .iadd, .iaload, .aload 0, .iload 3, .iconst 2, .iadd, .iaload, .invokevirtual 31212, .if_icmp .eq 1196, .iconst 0, .freturn]),
  (454, [.aload 1, .aload 0, .iload 3, .iconst 1, .iadd, .iaload, .aload 0, .iload 3, .iconst 2, .iadd, .iaload, .invokevirtual 212, .aload 2, .aload 0, .iload 3, .iconst 1, .iadd, .iaload, .aload 0, .iload 3, .iconst 2, .iadd, .iaload, .invokevirtual 31222, .if_icmp .eq 1196, .iconst 0, .freturn]),
  (487, [.aload 1, .aload 0, .iload 3, .iconst 1, .iadd, .iaload, .invokevirtual 221, .aload 2, .aload 0, .iload 3, .iconst 1, .iadd, .iaload, .invokevirtual 31231, .if_icmp .eq 1196, .iconst 0, .freturn]),
  (510, [.aload 1, .aload 0, .iload 3, .iconst 1, .iadd, .iaload, .invokevirtual 231, .aload 2, .aload 0, .iload 3, .iconst 1, .iadd, .iaload, .invokevirtual 31241, .if_icmp .eq 1196, .iconst 0, .freturn]),
  (533, [.aload 1, .aload 0, .iload 3, .iconst 1, .iadd, .iaload, .aload 0, .iload 3, .iconst 2, .iadd, .iaload, .invokevirtual 242, .aload 2, .aload 0, .iload 3, .iconst 1, .iadd, .iaload, .aload 0, .iload 3, .iconst 2, .iadd, .iaload, .invokevirtual 31252, .if_icmp .eq 1196, .iconst 0, .freturn]),
  (566, [.aload 1, .invokevirtual 180, .aload 2, .invokevirtual 31190, .if_icmp .eq 1196, .iconst 0, .freturn]),
  (579, [.aload 1, .aload 0, .iload 3, .iconst 1, .iadd, .iaload, .aload 0, .iload 3, .iconst 2, .iadd, .iaload, .aload 0, .iload 3, .iconst 3, .iadd, .iaload, .invokevirtual 253, .aload 2, .aload 0, .iload 3, .iconst 1, .iadd, .iaload, .aload 0, .iload 3, .iconst 2, .iadd, .iaload, .aload 0, .iload 3, .iconst 3, .iadd, .iaload, .invokevirtual 31283, .if_icmp .eq 1196, .iconst 0, .freturn]),
  (622, [.aload 1, .aload 0, .iload 3, .iconst 1, .iadd, .iaload, .aload 0, .iload 3, .iconst 2, .iadd, .iaload, .invokevirtual 262, .aload 2, .aload 0, .iload 3, .iconst 1, .iadd, .iaload, .aload 0, .iload 3, .iconst 2, .iadd, .iaload, .invokevirtual 31292, .if_icmp .eq 1196, .iconst 0, .freturn]),
  (655, [.aload 1, .aload 0, .iload 3, .iconst 1, .iadd, .iaload, .aload 0, .iload 3, .iconst 2, .iadd, .iaload, .aload 0, .iload 3, .iconst 3, .iadd, .iaload, .invokevirtual 273, .aload 2, .aload 0, .iload 3, .iconst 1, .iadd, .iaload, .aload 0, .iload 3, .iconst 2, .iadd, .iaload, .aload 0, .iload 3, .iconst 3, .iadd, .iaload, .invokevirtual 31303, .if_icmp .eq 1196, .iconst 0, .freturn]),
  (698, [.aload 1, .aload 0, .iload 3, .iconst 1, .iadd, .iaload, .aload 0, .iload 3, .iconst 2, .iadd, .iaload, .aload 0, .iload 3, .iconst 3, .iadd, .iaload, .invokevirtual 293, .aload 2, .aload 0, .iload 3, .iconst 1, .iadd, .iaload, .aload 0, .iload 3, .iconst 2, .iadd, .iaload, .aload 0, .iload 3, .iconst 3, .iadd, .iaload, .invokevirtual 31323, .if_icmp .eq 1196, .iconst 0, .freturn]),
  (741, [.aload 1, .aload 0, .iload 3, .iconst 1, .iadd, .iaload, .aload 0, .iload 3, .iconst 2, .iadd, .iaload, .aload 0, .iload 3, .iconst 3, .iadd, .iaload, .invokevirtual 313, .aload 2, .aload 0, .iload 3, .iconst 1, .iadd, .iaload, .aload 0, .iload 3, .iconst 2, .iadd, .iaload, .aload 0, .iload 3, .iconst 3, .iadd, .iaload, .invokevirtual 31333, .if_icmp .eq 1196, .iconst 0, .freturn]),
  (784, [.aload 1, .aload 0, .iload 3, .iconst 1, .iadd, .iaload, .aload 0, .iload 3, .iconst 2, .iadd, .iaload, .invokevirtual 322, .aload 2, .aload 0, .iload 3, .iconst 1, .iadd, .iaload, .aload 0, .iload 3, .iconst 2, .iadd, .iaload, .invokevirtual 31342, .if_icmp .eq 1196, .iconst 0, .freturn]),
  (817, [.aload 1, .aload 0, .iload 3, .iconst 1, .iadd, .iaload, .invokevirtual 331, .aload 2, .aload 0, .iload 3, .iconst 1, .iadd, .iaload, .invokevirtual 31351, .if_icmp .eq 1196, .iconst 0, .freturn]),
  (840, [.aload 1, .aload 0, .iload 3, .iconst 1, .iadd, .iaload, .invokevirtual 361, .aload 2, .aload 0, .iload 3, .iconst 1, .iadd, .iaload, .invokevirtual 31381, .if_icmp .eq 1196, .iconst 0, .freturn]),
  (863, [.aload 1, .aload 0, .iload 3, .iconst 1, .iadd, .iaload, .aload 0, .iload 3, .iconst 2, .iadd, .iaload, .invokevirtual 372, .aload 2, .aload 0, .iload 3, .iconst 1, .iadd, .iaload, .aload 0, .iload 3, .iconst 2, .iadd, .iaload, .invokevirtual 31392, .if_icmp .eq 1196, .iconst 0, .freturn]),
  (896, [.aload 1, .aload 0, .iload 3, .iconst 1, .iadd, .iaload, .aload 0, .iload 3, .iconst 2, .iadd, .iaload, .aload 0, .iload 3, .iconst 3, .iadd, .iaload, .aload 0, .iload 3, .iconst 4, .iadd, .iaload, .invokevirtual 394, .aload 2, .aload 0, .iload 3, .iconst 1, .iadd, .iaload, .aload 0, .iload 3, .iconst 2, .iadd, .iaload, .aload 0, .iload 3, .iconst 3, .iadd, .iaload, .aload 0, .iload 3, .iconst 4, .iadd, .iaload, .invokevirtual 31424, .if_icmp .eq 1196, .iconst 0, .freturn]),
  (949, [.aload 1, .aload 0, .iload 3, .iconst 1, .iadd, .iaload, .invokevirtual 411, .aload 2, .aload 0, .iload 3, .iconst 1, .iadd, .iaload, .invokevirtual 31451, .if_icmp .eq 1196, .iconst 0, .freturn]),
  (972, [.aload 1, .aload 0, .iload 3, .iconst 1, .iadd, .iaload, .aload 0, .iload 3, .iconst 2, .iadd, .iaload, .invokevirtual 422, .aload 2, .aload 0, .iload 3, .iconst 1, .iadd, .iaload, .aload 0, .iload 3, .iconst 2, .iadd, .iaload, .invokevirtual 31462, .if_icmp .eq 1196, .iconst 0, .freturn]),
  (1005, [.aload 1, .aload 0, .iload 3, .iconst 1, .iadd, .iaload, .invokevirtual 461, .aload 2, .aload 0, .iload 3, .iconst 1, .iadd, .iaload, .invokevirtual 31481, .if_icmp .eq 1196, .iconst 0, .freturn]),
  (1028, [.aload 1, .aload 0, .iload 3, .iconst 1, .iadd, .iaload, .invokevirtual 481, .aload 2, .aload 0, .iload 3, .iconst 1, .iadd, .iaload, .invokevirtual 31501, .if_icmp .eq 1196, .iconst 0, .freturn]),
  (1051, [.aload 1, .aload 0, .iload 3, .iconst 1, .iadd, .iaload, .invokevirtual 491, .aload 2, .aload 0, .iload 3, .iconst 1, .iadd, .iaload, .invokevirtual 31511, .if_icmp .eq 1196, .iconst 0, .freturn]),
  (1074, [.aload 1, .aload 0, .iload 3, .iconst 1, .iadd, .iaload, .aload 0, .iload 3, .iconst 2, .iadd, .iaload, .aload 0, .iload 3, .iconst 3, .iadd, .iaload, .aload 0, .iload 3, .iconst 4, .iadd, .iaload, .invokevirtual 524, .aload 2, .aload 0, .iload 3, .iconst 1, .iadd, .iaload, .aload 0, .iload 3, .iconst 2, .iadd, .iaload, .aload 0, .iload 3, .iconst 3, .iadd, .iaload, .aload 0, .iload 3, .iconst 4, .iadd, .iaload, .invokevirtual 31544, .if_icmp .eq 1196, .iconst 0, .freturn]),
  (1127, [.aload 1, .aload 0, .iload 3, .iconst 1, .iadd, .iaload, .invokevirtual 531, .aload 2, .aload 0, .iload 3, .iconst 1, .iadd, .iaload, .invokevirtual 31551, .if_icmp .eq 1196, .iconst 0, .freturn]),
  (1150, [.aload 1, .aload 0, .iload 3, .iconst 1, .iadd, .iaload, .invokevirtual 541, .aload 2, .aload 0, .iload 3, .iconst 1, .iadd, .iaload, .invokevirtual 31581, .if_icmp .eq 1196, .iconst 0, .freturn]),
  (1173, [.aload 1, .aload 0, .iload 3, .iconst 1, .iadd, .iaload, .invokevirtual 551, .aload 2, .aload 0, .iload 3, .iconst 1, .iadd, .iaload, .invokevirtual 31591, .if_icmp .eq 1196, .iconst 0, .freturn]),
  (1196, [.iinc 3 6, .goto 18]),
  (1202, [.iconst 1, .freturn])]
/-- Exception.init -/
def bk_226 : List (Nat × List Instr) := [
  (0, [.aload 0, .aload 1, .aload 2, .iload 3, .iload 4, .invokespecial 2354, .return_])]
/-- Integer.bitCount -/
def bk_227 : List (Nat × List Instr) := [
  (0, [.iload 0, .iload 0, .iconst 1, .iushr, .iconst 1431655765, .iand, .isub, .istore 0, .iload 0, .iconst 858993459, .iand, .iload 0, .iconst 2, .iushr, .iconst 858993459, .iand, .iadd, .istore 0, .iload 0, .iload 0, .iconst 4, .iushr, .iadd, .iconst 252645135, .iand, .istore 0, .iload 0, .iload 0, .iconst 8, .iushr, .iadd, .istore 0, .iload 0, .iload 0, .iconst 16, .iushr, .iadd, .istore 0, .iload 0, .iconst 63, .iand, .ireturn])]
/-- RuntimeException.init -/
def bk_228 : List (Nat × List Instr) := [
  (0, [.aload 0, .aload 1, .aload 2, .iload 3, .iload 4, .invokespecial 2264, .return_])]
/-- String.charAt -/
def bk_229 : List (Nat × List Instr) := [
  (0, [.aload 0, .invokevirtual 192320, .ifCond .eq 16, .aload 0, .invokeinterface 19 0, .iload 1, .invokestatic 2342, .dreturn]),
  (16, [.aload 0, .invokeinterface 19 0, .iload 1])]
/-- String.checkIndex -/
def bk_230 : List (Nat × List Instr) := [
  (0, [.iload 0, .iload 1, .getstatic 2, .invokestatic 2363, .pop, .return_])]
/-- String.coder -/
def bk_231 : List (Nat × List Instr) := [
  (0, [.getstatic 3, .ifCond .eq 13, .aload 0, .invokeinterface 19 1, .goto 14]),
  (13, [.iconst 1, .goto_w 14]),
  (14, [.dreturn])]
/-- String.isLatin1 -/
def bk_232 : List (Nat × List Instr) := [
  (0, [.getstatic 3, .ifCond .eq 17, .aload 0, .invokeinterface 19 1, .ifCond .ne 17, .iconst 1, .goto 18]),
  (17, [.iconst 0, .goto_w 18]),
  (18, [.freturn])]
/-- String.length -/
def bk_233 : List (Nat × List Instr) := [
  (0, [.aload 0, .invokeinterface 19 0, .arraylength, .aload 0, .invokevirtual 192310, .ishr, .ireturn])]
/-- StringLatin1.charAt -/
def bk_234 : List (Nat × List Instr) := [
  (0, [.iload 1, .aload 0, .arraylength, .invokestatic 2302, .aload 0, .iload 1, .baload, .iconst 255, .iand, .i2c, .dreturn])]
/-- Throwable.init -/
def bk_235 : List (Nat × List Instr) := [
  (0, [.aload 0, .monitorenter, .aload 0, .aload 0, .multianewarray 2 200, .aload 0, .getstatic 0, .multianewarray 2 201, .aload 0, .getstatic 1, .multianewarray 2 202, .iload 4, .ifCond .eq 36, .aload 0]),
  (36, [.aload 0, .aconst_null, .multianewarray 2 201, .goto_w 41]),
  (41, [.aload 0, .aload 1, .multianewarray 2 203, .aload 0, .aload 2, .multianewarray 2 200, .iload 3, .ifCond .ne 60, .aload 0, .aconst_null, .multianewarray 2 202, .goto_w 60]),
  (60, [.return_])]
/-- Preconditions.checkIndex -/
def bk_236 : List (Nat × List Instr) := [
  (0, [.iload 0, .ifCond .lt 9, .iload 0, .iload 1, .if_icmp .lt 16, .goto_w 9]),
  (9, [.aload 2, .iload 0, .iload 1]),
  (16, [.iload 0, .ireturn])]
def jx_btb : List (List (Nat × List Instr)) := [[], bk_1, bk_2, bk_3, bk_4, bk_5, bk_6, bk_7, bk_8, bk_9, bk_10, bk_11, bk_12, bk_13, bk_14, bk_15, bk_16, bk_17, bk_18, bk_19, bk_20, bk_21, bk_22, bk_23, bk_24, bk_25, bk_26, bk_27, bk_28, bk_29, bk_30, bk_31, bk_32, bk_33, bk_34, bk_35, bk_36, bk_37, bk_38, bk_39, bk_40, bk_41, bk_42, bk_43, bk_44, bk_45, bk_46, bk_47, bk_48, bk_49, bk_50, bk_51, bk_52, bk_53, bk_54, bk_55, bk_56, bk_57, bk_58, bk_59, bk_60, bk_61, bk_62, bk_63, bk_64, bk_65, bk_66, bk_67, bk_68, bk_69, bk_70, bk_71, bk_72, bk_73, bk_74, bk_75, bk_76, bk_77, bk_78, bk_79, bk_80, bk_81, bk_82, bk_83, bk_84, bk_85, bk_86, bk_87, bk_88, bk_89, bk_90, bk_91, bk_92, bk_93, bk_94, bk_95, bk_96, bk_97, bk_98, bk_99, bk_100, bk_101, bk_102, bk_103, bk_104, bk_105, bk_106, bk_107, bk_108, bk_109, bk_110, bk_111, bk_112, bk_113, bk_114, bk_115, bk_116, bk_117, bk_118, bk_119, bk_120, bk_121, bk_122, bk_123, bk_124, bk_125, bk_126, bk_127, bk_128, bk_129, bk_130, bk_131, bk_132, bk_133, bk_134, bk_135, bk_136, bk_137, bk_138, bk_139, bk_140, bk_141, bk_142, bk_143, bk_144, bk_145, bk_146, bk_147, bk_148, bk_149, bk_150, bk_151, bk_152, bk_153, bk_154, bk_155, bk_156, bk_157, bk_158, bk_159, bk_160, bk_161, bk_162, bk_163, bk_164, bk_165, bk_166, bk_167, bk_168, bk_169, bk_170, bk_171, bk_172, bk_173, bk_174, bk_175, bk_176, bk_177, bk_178, bk_179, bk_180, bk_181, bk_182, bk_183, bk_184, bk_185, bk_186, bk_187, bk_188, bk_189, bk_190, bk_191, bk_192, bk_193, bk_194, bk_195, bk_196, bk_197, bk_198, bk_199, bk_200, bk_201, bk_202, bk_203, bk_204, bk_205, bk_206, bk_207, bk_208, bk_209, bk_210, bk_211, bk_212, bk_213, bk_214, bk_215, bk_216, bk_217, bk_218, bk_219, bk_220, bk_221, bk_222, bk_223, bk_224, bk_225, bk_226, bk_227, bk_228, bk_229, bk_230, bk_231, bk_232, bk_233, bk_234, bk_235, bk_236]
def jx_PP : jx_P := (fun y L => (((jx_btb.getD y []).lookup L).getD []), fun y vs => if y = 0 then none else jx_le (jx_m y).2.2.2.2.2.1 (jx_m y).2.2.1 vs, jx_dt, fun y => !(jx_m y).2.2.2.2.1.isEmpty)
