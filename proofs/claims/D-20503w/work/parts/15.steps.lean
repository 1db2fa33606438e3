/-! ## walks (written by tools) -/
set_option maxRecDepth 100000
def dkwJ12_nextUp_1 : List UInt8 := [167, 0, 6, 20, 0, 130, 97, 184, 0, 166, 175, 38, 175]
abbrev dktJ12_nextUp_1 : List UInt8 := dkwJ12_nextUp_1 ++ []
def dkwJ12_nextUp_0 : List UInt8 := [38, 20, 1, 71, 152, 156, 0, 29, 38, 14, 99, 184, 0, 79, 65, 32, 32, 9, 148, 155, 0, 7, 10]
abbrev dktJ12_nextUp_0 : List UInt8 := dkwJ12_nextUp_0 ++ dktJ12_nextUp_1
theorem dksJ12_nextUp_0 : cJ12_nextUp.data.toList.drop 0 = dktJ12_nextUp_0 := by decide +kernel
theorem dksJ12_nextUp_1 : cJ12_nextUp.data.toList.drop 23 = dktJ12_nextUp_1 := dk_seg dksJ12_nextUp_0 23 rfl rfl
theorem dJ12_nextUp_0 : decode cJ12_nextUp 0 = .ok (.dload_n 0, 1) := dk_38 (dk_at dksJ12_nextUp_0 0 rfl rfl)
theorem dJ12_nextUp_1 : decode cJ12_nextUp 1 = .ok (.ldc2_w 327, 3) := dk_20 1 71 (dk_at dksJ12_nextUp_0 1 rfl rfl)
theorem dJ12_nextUp_4 : decode cJ12_nextUp 4 = .ok (.dcmp .g, 1) := dk_152 (dk_at dksJ12_nextUp_0 4 rfl rfl)
theorem dJ12_nextUp_5 : decode cJ12_nextUp 5 = .ok (.ifCond .ge 29, 3) := dk_156 0 29 (dk_at dksJ12_nextUp_0 5 rfl rfl)
theorem dJ12_nextUp_8 : decode cJ12_nextUp 8 = .ok (.dload_n 0, 1) := dk_38 (dk_at dksJ12_nextUp_0 8 rfl rfl)
theorem dJ12_nextUp_9 : decode cJ12_nextUp 9 = .ok (.dconst 0, 1) := dk_14 (dk_at dksJ12_nextUp_0 9 rfl rfl)
theorem dJ12_nextUp_10 : decode cJ12_nextUp 10 = .ok (.dadd, 1) := dk_99 (dk_at dksJ12_nextUp_0 10 rfl rfl)
theorem dJ12_nextUp_11 : decode cJ12_nextUp 11 = .ok (.invokestatic 79, 3) := dk_184 0 79 (dk_at dksJ12_nextUp_0 11 rfl rfl)
theorem dJ12_nextUp_14 : decode cJ12_nextUp 14 = .ok (.lstore_n 2, 1) := dk_65 (dk_at dksJ12_nextUp_0 14 rfl rfl)
theorem dJ12_nextUp_15 : decode cJ12_nextUp 15 = .ok (.lload_n 2, 1) := dk_32 (dk_at dksJ12_nextUp_0 15 rfl rfl)
theorem dJ12_nextUp_16 : decode cJ12_nextUp 16 = .ok (.lload_n 2, 1) := dk_32 (dk_at dksJ12_nextUp_0 16 rfl rfl)
theorem dJ12_nextUp_17 : decode cJ12_nextUp 17 = .ok (.lconst 0, 1) := dk_9 (dk_at dksJ12_nextUp_0 17 rfl rfl)
theorem dJ12_nextUp_18 : decode cJ12_nextUp 18 = .ok (.lcmp, 1) := dk_148 (dk_at dksJ12_nextUp_0 18 rfl rfl)
theorem dJ12_nextUp_19 : decode cJ12_nextUp 19 = .ok (.ifCond .lt 7, 3) := dk_155 0 7 (dk_at dksJ12_nextUp_0 19 rfl rfl)
theorem dJ12_nextUp_22 : decode cJ12_nextUp 22 = .ok (.lconst 1, 1) := dk_10 (dk_at dksJ12_nextUp_0 22 rfl rfl)
theorem dJ12_nextUp_23 : decode cJ12_nextUp 23 = .ok (.goto 6, 3) := dk_167 0 6 (dk_at dksJ12_nextUp_1 0 rfl rfl)
theorem dJ12_nextUp_26 : decode cJ12_nextUp 26 = .ok (.ldc2_w 130, 3) := dk_20 0 130 (dk_at dksJ12_nextUp_1 3 rfl rfl)
theorem dJ12_nextUp_29 : decode cJ12_nextUp 29 = .ok (.ladd, 1) := dk_97 (dk_at dksJ12_nextUp_1 6 rfl rfl)
theorem dJ12_nextUp_30 : decode cJ12_nextUp 30 = .ok (.invokestatic 166, 3) := dk_184 0 166 (dk_at dksJ12_nextUp_1 7 rfl rfl)
theorem dJ12_nextUp_33 : decode cJ12_nextUp 33 = .ok (.dreturn, 1) := dk_175 (dk_at dksJ12_nextUp_1 10 rfl rfl)
theorem dJ12_nextUp_34 : decode cJ12_nextUp 34 = .ok (.dload_n 0, 1) := dk_38 (dk_at dksJ12_nextUp_1 11 rfl rfl)
theorem dJ12_nextUp_35 : decode cJ12_nextUp 35 = .ok (.dreturn, 1) := dk_175 (dk_at dksJ12_nextUp_1 12 rfl rfl)
def dkwJ12_nextDown_2 : List UInt8 := [184, 0, 166, 175]
abbrev dktJ12_nextDown_2 : List UInt8 := dkwJ12_nextDown_2 ++ []
def dkwJ12_nextDown_1 : List UInt8 := [20, 1, 68, 175, 38, 184, 0, 79, 38, 14, 151, 158, 0, 9, 20, 0, 130, 167, 0, 4, 10, 97]
abbrev dktJ12_nextDown_1 : List UInt8 := dkwJ12_nextDown_1 ++ dktJ12_nextDown_2
def dkwJ12_nextDown_0 : List UInt8 := [38, 184, 0, 205, 154, 0, 11, 38, 20, 1, 74, 151, 154, 0, 5, 38, 175, 38, 14, 151, 154, 0, 7]
abbrev dktJ12_nextDown_0 : List UInt8 := dkwJ12_nextDown_0 ++ dktJ12_nextDown_1
theorem dksJ12_nextDown_0 : cJ12_nextDown.data.toList.drop 0 = dktJ12_nextDown_0 := by decide +kernel
theorem dksJ12_nextDown_1 : cJ12_nextDown.data.toList.drop 23 = dktJ12_nextDown_1 := dk_seg dksJ12_nextDown_0 23 rfl rfl
theorem dksJ12_nextDown_2 : cJ12_nextDown.data.toList.drop 45 = dktJ12_nextDown_2 := dk_seg dksJ12_nextDown_1 22 rfl rfl
theorem dJ12_nextDown_0 : decode cJ12_nextDown 0 = .ok (.dload_n 0, 1) := dk_38 (dk_at dksJ12_nextDown_0 0 rfl rfl)
theorem dJ12_nextDown_1 : decode cJ12_nextDown 1 = .ok (.invokestatic 205, 3) := dk_184 0 205 (dk_at dksJ12_nextDown_0 1 rfl rfl)
theorem dJ12_nextDown_4 : decode cJ12_nextDown 4 = .ok (.ifCond .ne 11, 3) := dk_154 0 11 (dk_at dksJ12_nextDown_0 4 rfl rfl)
theorem dJ12_nextDown_7 : decode cJ12_nextDown 7 = .ok (.dload_n 0, 1) := dk_38 (dk_at dksJ12_nextDown_0 7 rfl rfl)
theorem dJ12_nextDown_8 : decode cJ12_nextDown 8 = .ok (.ldc2_w 330, 3) := dk_20 1 74 (dk_at dksJ12_nextDown_0 8 rfl rfl)
theorem dJ12_nextDown_11 : decode cJ12_nextDown 11 = .ok (.dcmp .l, 1) := dk_151 (dk_at dksJ12_nextDown_0 11 rfl rfl)
theorem dJ12_nextDown_12 : decode cJ12_nextDown 12 = .ok (.ifCond .ne 5, 3) := dk_154 0 5 (dk_at dksJ12_nextDown_0 12 rfl rfl)
theorem dJ12_nextDown_15 : decode cJ12_nextDown 15 = .ok (.dload_n 0, 1) := dk_38 (dk_at dksJ12_nextDown_0 15 rfl rfl)
theorem dJ12_nextDown_16 : decode cJ12_nextDown 16 = .ok (.dreturn, 1) := dk_175 (dk_at dksJ12_nextDown_0 16 rfl rfl)
theorem dJ12_nextDown_17 : decode cJ12_nextDown 17 = .ok (.dload_n 0, 1) := dk_38 (dk_at dksJ12_nextDown_0 17 rfl rfl)
theorem dJ12_nextDown_18 : decode cJ12_nextDown 18 = .ok (.dconst 0, 1) := dk_14 (dk_at dksJ12_nextDown_0 18 rfl rfl)
theorem dJ12_nextDown_19 : decode cJ12_nextDown 19 = .ok (.dcmp .l, 1) := dk_151 (dk_at dksJ12_nextDown_0 19 rfl rfl)
theorem dJ12_nextDown_20 : decode cJ12_nextDown 20 = .ok (.ifCond .ne 7, 3) := dk_154 0 7 (dk_at dksJ12_nextDown_0 20 rfl rfl)
theorem dJ12_nextDown_23 : decode cJ12_nextDown 23 = .ok (.ldc2_w 324, 3) := dk_20 1 68 (dk_at dksJ12_nextDown_1 0 rfl rfl)
theorem dJ12_nextDown_26 : decode cJ12_nextDown 26 = .ok (.dreturn, 1) := dk_175 (dk_at dksJ12_nextDown_1 3 rfl rfl)
theorem dJ12_nextDown_27 : decode cJ12_nextDown 27 = .ok (.dload_n 0, 1) := dk_38 (dk_at dksJ12_nextDown_1 4 rfl rfl)
theorem dJ12_nextDown_28 : decode cJ12_nextDown 28 = .ok (.invokestatic 79, 3) := dk_184 0 79 (dk_at dksJ12_nextDown_1 5 rfl rfl)
theorem dJ12_nextDown_31 : decode cJ12_nextDown 31 = .ok (.dload_n 0, 1) := dk_38 (dk_at dksJ12_nextDown_1 8 rfl rfl)
theorem dJ12_nextDown_32 : decode cJ12_nextDown 32 = .ok (.dconst 0, 1) := dk_14 (dk_at dksJ12_nextDown_1 9 rfl rfl)
theorem dJ12_nextDown_33 : decode cJ12_nextDown 33 = .ok (.dcmp .l, 1) := dk_151 (dk_at dksJ12_nextDown_1 10 rfl rfl)
theorem dJ12_nextDown_34 : decode cJ12_nextDown 34 = .ok (.ifCond .le 9, 3) := dk_158 0 9 (dk_at dksJ12_nextDown_1 11 rfl rfl)
theorem dJ12_nextDown_37 : decode cJ12_nextDown 37 = .ok (.ldc2_w 130, 3) := dk_20 0 130 (dk_at dksJ12_nextDown_1 14 rfl rfl)
theorem dJ12_nextDown_40 : decode cJ12_nextDown 40 = .ok (.goto 4, 3) := dk_167 0 4 (dk_at dksJ12_nextDown_1 17 rfl rfl)
theorem dJ12_nextDown_43 : decode cJ12_nextDown 43 = .ok (.lconst 1, 1) := dk_10 (dk_at dksJ12_nextDown_1 20 rfl rfl)
theorem dJ12_nextDown_44 : decode cJ12_nextDown 44 = .ok (.ladd, 1) := dk_97 (dk_at dksJ12_nextDown_1 21 rfl rfl)
theorem dJ12_nextDown_45 : decode cJ12_nextDown 45 = .ok (.invokestatic 166, 3) := dk_184 0 166 (dk_at dksJ12_nextDown_2 0 rfl rfl)
theorem dJ12_nextDown_48 : decode cJ12_nextDown 48 = .ok (.dreturn, 1) := dk_175 (dk_at dksJ12_nextDown_2 3 rfl rfl)
def dkwJ12_nextAfter_3 : List UInt8 := [20, 0, 130, 97, 184, 0, 166, 175, 38, 40, 151, 154, 0, 5, 40, 175, 38, 40, 99, 175]
abbrev dktJ12_nextAfter_3 : List UInt8 := dkwJ12_nextAfter_3 ++ []
def dkwJ12_nextAfter_2 : List UInt8 := [156, 0, 32, 38, 14, 99, 184, 0, 79, 55, 4, 22, 4, 22, 4, 9, 148, 155, 0, 7, 10, 167, 0, 6]
abbrev dktJ12_nextAfter_2 : List UInt8 := dkwJ12_nextAfter_2 ++ dktJ12_nextAfter_3
def dkwJ12_nextAfter_1 : List UInt8 := [158, 0, 9, 20, 0, 130, 167, 0, 4, 10, 97, 184, 0, 166, 175, 20, 1, 68, 175, 38, 40, 152]
abbrev dktJ12_nextAfter_1 : List UInt8 := dkwJ12_nextAfter_1 ++ dktJ12_nextAfter_2
def dkwJ12_nextAfter_0 : List UInt8 := [38, 40, 151, 158, 0, 40, 38, 14, 151, 153, 0, 30, 38, 184, 0, 79, 55, 4, 22, 4, 22, 4, 9, 148]
abbrev dktJ12_nextAfter_0 : List UInt8 := dkwJ12_nextAfter_0 ++ dktJ12_nextAfter_1
theorem dksJ12_nextAfter_0 : cJ12_nextAfter.data.toList.drop 0 = dktJ12_nextAfter_0 := by decide +kernel
theorem dksJ12_nextAfter_1 : cJ12_nextAfter.data.toList.drop 24 = dktJ12_nextAfter_1 := dk_seg dksJ12_nextAfter_0 24 rfl rfl
theorem dksJ12_nextAfter_2 : cJ12_nextAfter.data.toList.drop 46 = dktJ12_nextAfter_2 := dk_seg dksJ12_nextAfter_1 22 rfl rfl
theorem dksJ12_nextAfter_3 : cJ12_nextAfter.data.toList.drop 70 = dktJ12_nextAfter_3 := dk_seg dksJ12_nextAfter_2 24 rfl rfl
theorem dJ12_nextAfter_0 : decode cJ12_nextAfter 0 = .ok (.dload_n 0, 1) := dk_38 (dk_at dksJ12_nextAfter_0 0 rfl rfl)
theorem dJ12_nextAfter_1 : decode cJ12_nextAfter 1 = .ok (.dload_n 2, 1) := dk_40 (dk_at dksJ12_nextAfter_0 1 rfl rfl)
theorem dJ12_nextAfter_2 : decode cJ12_nextAfter 2 = .ok (.dcmp .l, 1) := dk_151 (dk_at dksJ12_nextAfter_0 2 rfl rfl)
theorem dJ12_nextAfter_3 : decode cJ12_nextAfter 3 = .ok (.ifCond .le 40, 3) := dk_158 0 40 (dk_at dksJ12_nextAfter_0 3 rfl rfl)
theorem dJ12_nextAfter_6 : decode cJ12_nextAfter 6 = .ok (.dload_n 0, 1) := dk_38 (dk_at dksJ12_nextAfter_0 6 rfl rfl)
theorem dJ12_nextAfter_7 : decode cJ12_nextAfter 7 = .ok (.dconst 0, 1) := dk_14 (dk_at dksJ12_nextAfter_0 7 rfl rfl)
theorem dJ12_nextAfter_8 : decode cJ12_nextAfter 8 = .ok (.dcmp .l, 1) := dk_151 (dk_at dksJ12_nextAfter_0 8 rfl rfl)
theorem dJ12_nextAfter_9 : decode cJ12_nextAfter 9 = .ok (.ifCond .eq 30, 3) := dk_153 0 30 (dk_at dksJ12_nextAfter_0 9 rfl rfl)
theorem dJ12_nextAfter_12 : decode cJ12_nextAfter 12 = .ok (.dload_n 0, 1) := dk_38 (dk_at dksJ12_nextAfter_0 12 rfl rfl)
theorem dJ12_nextAfter_13 : decode cJ12_nextAfter 13 = .ok (.invokestatic 79, 3) := dk_184 0 79 (dk_at dksJ12_nextAfter_0 13 rfl rfl)
theorem dJ12_nextAfter_16 : decode cJ12_nextAfter 16 = .ok (.lstore 4, 2) := dk_55 4 (dk_at dksJ12_nextAfter_0 16 rfl rfl)
theorem dJ12_nextAfter_18 : decode cJ12_nextAfter 18 = .ok (.lload 4, 2) := dk_22 4 (dk_at dksJ12_nextAfter_0 18 rfl rfl)
theorem dJ12_nextAfter_20 : decode cJ12_nextAfter 20 = .ok (.lload 4, 2) := dk_22 4 (dk_at dksJ12_nextAfter_0 20 rfl rfl)
theorem dJ12_nextAfter_22 : decode cJ12_nextAfter 22 = .ok (.lconst 0, 1) := dk_9 (dk_at dksJ12_nextAfter_0 22 rfl rfl)
theorem dJ12_nextAfter_23 : decode cJ12_nextAfter 23 = .ok (.lcmp, 1) := dk_148 (dk_at dksJ12_nextAfter_0 23 rfl rfl)
theorem dJ12_nextAfter_24 : decode cJ12_nextAfter 24 = .ok (.ifCond .le 9, 3) := dk_158 0 9 (dk_at dksJ12_nextAfter_1 0 rfl rfl)
theorem dJ12_nextAfter_27 : decode cJ12_nextAfter 27 = .ok (.ldc2_w 130, 3) := dk_20 0 130 (dk_at dksJ12_nextAfter_1 3 rfl rfl)
theorem dJ12_nextAfter_30 : decode cJ12_nextAfter 30 = .ok (.goto 4, 3) := dk_167 0 4 (dk_at dksJ12_nextAfter_1 6 rfl rfl)
theorem dJ12_nextAfter_33 : decode cJ12_nextAfter 33 = .ok (.lconst 1, 1) := dk_10 (dk_at dksJ12_nextAfter_1 9 rfl rfl)
theorem dJ12_nextAfter_34 : decode cJ12_nextAfter 34 = .ok (.ladd, 1) := dk_97 (dk_at dksJ12_nextAfter_1 10 rfl rfl)
theorem dJ12_nextAfter_35 : decode cJ12_nextAfter 35 = .ok (.invokestatic 166, 3) := dk_184 0 166 (dk_at dksJ12_nextAfter_1 11 rfl rfl)
theorem dJ12_nextAfter_38 : decode cJ12_nextAfter 38 = .ok (.dreturn, 1) := dk_175 (dk_at dksJ12_nextAfter_1 14 rfl rfl)
theorem dJ12_nextAfter_39 : decode cJ12_nextAfter 39 = .ok (.ldc2_w 324, 3) := dk_20 1 68 (dk_at dksJ12_nextAfter_1 15 rfl rfl)
theorem dJ12_nextAfter_42 : decode cJ12_nextAfter 42 = .ok (.dreturn, 1) := dk_175 (dk_at dksJ12_nextAfter_1 18 rfl rfl)
theorem dJ12_nextAfter_43 : decode cJ12_nextAfter 43 = .ok (.dload_n 0, 1) := dk_38 (dk_at dksJ12_nextAfter_1 19 rfl rfl)
theorem dJ12_nextAfter_44 : decode cJ12_nextAfter 44 = .ok (.dload_n 2, 1) := dk_40 (dk_at dksJ12_nextAfter_1 20 rfl rfl)
theorem dJ12_nextAfter_45 : decode cJ12_nextAfter 45 = .ok (.dcmp .g, 1) := dk_152 (dk_at dksJ12_nextAfter_1 21 rfl rfl)
theorem dJ12_nextAfter_46 : decode cJ12_nextAfter 46 = .ok (.ifCond .ge 32, 3) := dk_156 0 32 (dk_at dksJ12_nextAfter_2 0 rfl rfl)
theorem dJ12_nextAfter_49 : decode cJ12_nextAfter 49 = .ok (.dload_n 0, 1) := dk_38 (dk_at dksJ12_nextAfter_2 3 rfl rfl)
theorem dJ12_nextAfter_50 : decode cJ12_nextAfter 50 = .ok (.dconst 0, 1) := dk_14 (dk_at dksJ12_nextAfter_2 4 rfl rfl)
theorem dJ12_nextAfter_51 : decode cJ12_nextAfter 51 = .ok (.dadd, 1) := dk_99 (dk_at dksJ12_nextAfter_2 5 rfl rfl)
theorem dJ12_nextAfter_52 : decode cJ12_nextAfter 52 = .ok (.invokestatic 79, 3) := dk_184 0 79 (dk_at dksJ12_nextAfter_2 6 rfl rfl)
theorem dJ12_nextAfter_55 : decode cJ12_nextAfter 55 = .ok (.lstore 4, 2) := dk_55 4 (dk_at dksJ12_nextAfter_2 9 rfl rfl)
theorem dJ12_nextAfter_57 : decode cJ12_nextAfter 57 = .ok (.lload 4, 2) := dk_22 4 (dk_at dksJ12_nextAfter_2 11 rfl rfl)
theorem dJ12_nextAfter_59 : decode cJ12_nextAfter 59 = .ok (.lload 4, 2) := dk_22 4 (dk_at dksJ12_nextAfter_2 13 rfl rfl)
theorem dJ12_nextAfter_61 : decode cJ12_nextAfter 61 = .ok (.lconst 0, 1) := dk_9 (dk_at dksJ12_nextAfter_2 15 rfl rfl)
theorem dJ12_nextAfter_62 : decode cJ12_nextAfter 62 = .ok (.lcmp, 1) := dk_148 (dk_at dksJ12_nextAfter_2 16 rfl rfl)
theorem dJ12_nextAfter_63 : decode cJ12_nextAfter 63 = .ok (.ifCond .lt 7, 3) := dk_155 0 7 (dk_at dksJ12_nextAfter_2 17 rfl rfl)
theorem dJ12_nextAfter_66 : decode cJ12_nextAfter 66 = .ok (.lconst 1, 1) := dk_10 (dk_at dksJ12_nextAfter_2 20 rfl rfl)
theorem dJ12_nextAfter_67 : decode cJ12_nextAfter 67 = .ok (.goto 6, 3) := dk_167 0 6 (dk_at dksJ12_nextAfter_2 21 rfl rfl)
theorem dJ12_nextAfter_70 : decode cJ12_nextAfter 70 = .ok (.ldc2_w 130, 3) := dk_20 0 130 (dk_at dksJ12_nextAfter_3 0 rfl rfl)
theorem dJ12_nextAfter_73 : decode cJ12_nextAfter 73 = .ok (.ladd, 1) := dk_97 (dk_at dksJ12_nextAfter_3 3 rfl rfl)
theorem dJ12_nextAfter_74 : decode cJ12_nextAfter 74 = .ok (.invokestatic 166, 3) := dk_184 0 166 (dk_at dksJ12_nextAfter_3 4 rfl rfl)
theorem dJ12_nextAfter_77 : decode cJ12_nextAfter 77 = .ok (.dreturn, 1) := dk_175 (dk_at dksJ12_nextAfter_3 7 rfl rfl)
theorem dJ12_nextAfter_78 : decode cJ12_nextAfter 78 = .ok (.dload_n 0, 1) := dk_38 (dk_at dksJ12_nextAfter_3 8 rfl rfl)
theorem dJ12_nextAfter_79 : decode cJ12_nextAfter 79 = .ok (.dload_n 2, 1) := dk_40 (dk_at dksJ12_nextAfter_3 9 rfl rfl)
theorem dJ12_nextAfter_80 : decode cJ12_nextAfter 80 = .ok (.dcmp .l, 1) := dk_151 (dk_at dksJ12_nextAfter_3 10 rfl rfl)
theorem dJ12_nextAfter_81 : decode cJ12_nextAfter 81 = .ok (.ifCond .ne 5, 3) := dk_154 0 5 (dk_at dksJ12_nextAfter_3 11 rfl rfl)
theorem dJ12_nextAfter_84 : decode cJ12_nextAfter 84 = .ok (.dload_n 2, 1) := dk_40 (dk_at dksJ12_nextAfter_3 14 rfl rfl)
theorem dJ12_nextAfter_85 : decode cJ12_nextAfter 85 = .ok (.dreturn, 1) := dk_175 (dk_at dksJ12_nextAfter_3 15 rfl rfl)
theorem dJ12_nextAfter_86 : decode cJ12_nextAfter 86 = .ok (.dload_n 0, 1) := dk_38 (dk_at dksJ12_nextAfter_3 16 rfl rfl)
theorem dJ12_nextAfter_87 : decode cJ12_nextAfter 87 = .ok (.dload_n 2, 1) := dk_40 (dk_at dksJ12_nextAfter_3 17 rfl rfl)
theorem dJ12_nextAfter_88 : decode cJ12_nextAfter 88 = .ok (.dadd, 1) := dk_99 (dk_at dksJ12_nextAfter_3 18 rfl rfl)
theorem dJ12_nextAfter_89 : decode cJ12_nextAfter 89 = .ok (.dreturn, 1) := dk_175 (dk_at dksJ12_nextAfter_3 19 rfl rfl)
def dkwJ12_powerOfTwoD_1 : List UInt8 := [183, 0, 249, 191, 26, 133, 20, 1, 66, 97, 16, 52, 121, 20, 0, 87, 127, 184, 0, 166, 175]
abbrev dktJ12_powerOfTwoD_1 : List UInt8 := dkwJ12_powerOfTwoD_1 ++ []
def dkwJ12_powerOfTwoD_0 : List UInt8 := [178, 0, 243, 154, 0, 25, 26, 17, 252, 2, 161, 0, 10, 26, 17, 3, 255, 164, 0, 11, 187, 0, 247, 89]
abbrev dktJ12_powerOfTwoD_0 : List UInt8 := dkwJ12_powerOfTwoD_0 ++ dktJ12_powerOfTwoD_1
theorem dksJ12_powerOfTwoD_0 : cJ12_powerOfTwoD.data.toList.drop 0 = dktJ12_powerOfTwoD_0 := by decide +kernel
theorem dksJ12_powerOfTwoD_1 : cJ12_powerOfTwoD.data.toList.drop 24 = dktJ12_powerOfTwoD_1 := dk_seg dksJ12_powerOfTwoD_0 24 rfl rfl
theorem dJ12_powerOfTwoD_0 : decode cJ12_powerOfTwoD 0 = .ok (.getstatic 243, 3) := dk_178 0 243 (dk_at dksJ12_powerOfTwoD_0 0 rfl rfl)
theorem dJ12_powerOfTwoD_3 : decode cJ12_powerOfTwoD 3 = .ok (.ifCond .ne 25, 3) := dk_154 0 25 (dk_at dksJ12_powerOfTwoD_0 3 rfl rfl)
theorem dJ12_powerOfTwoD_6 : decode cJ12_powerOfTwoD 6 = .ok (.iload_n 0, 1) := dk_26 (dk_at dksJ12_powerOfTwoD_0 6 rfl rfl)
theorem dJ12_powerOfTwoD_7 : decode cJ12_powerOfTwoD 7 = .ok (.sipush (-1022), 3) := dk_17 252 2 (dk_at dksJ12_powerOfTwoD_0 7 rfl rfl)
theorem dJ12_powerOfTwoD_10 : decode cJ12_powerOfTwoD 10 = .ok (.if_icmp .lt 10, 3) := dk_161 0 10 (dk_at dksJ12_powerOfTwoD_0 10 rfl rfl)
theorem dJ12_powerOfTwoD_13 : decode cJ12_powerOfTwoD 13 = .ok (.iload_n 0, 1) := dk_26 (dk_at dksJ12_powerOfTwoD_0 13 rfl rfl)
theorem dJ12_powerOfTwoD_14 : decode cJ12_powerOfTwoD 14 = .ok (.sipush 1023, 3) := dk_17 3 255 (dk_at dksJ12_powerOfTwoD_0 14 rfl rfl)
theorem dJ12_powerOfTwoD_17 : decode cJ12_powerOfTwoD 17 = .ok (.if_icmp .le 11, 3) := dk_164 0 11 (dk_at dksJ12_powerOfTwoD_0 17 rfl rfl)
theorem dJ12_powerOfTwoD_20 : decode cJ12_powerOfTwoD 20 = .ok (.new 247, 3) := dk_187 0 247 (dk_at dksJ12_powerOfTwoD_0 20 rfl rfl)
theorem dJ12_powerOfTwoD_23 : decode cJ12_powerOfTwoD 23 = .ok (.dup, 1) := dk_89 (dk_at dksJ12_powerOfTwoD_0 23 rfl rfl)
theorem dJ12_powerOfTwoD_24 : decode cJ12_powerOfTwoD 24 = .ok (.invokespecial 249, 3) := dk_183 0 249 (dk_at dksJ12_powerOfTwoD_1 0 rfl rfl)
theorem dJ12_powerOfTwoD_27 : decode cJ12_powerOfTwoD 27 = .ok (.athrow, 1) := dk_191 (dk_at dksJ12_powerOfTwoD_1 3 rfl rfl)
theorem dJ12_powerOfTwoD_28 : decode cJ12_powerOfTwoD 28 = .ok (.iload_n 0, 1) := dk_26 (dk_at dksJ12_powerOfTwoD_1 4 rfl rfl)
theorem dJ12_powerOfTwoD_29 : decode cJ12_powerOfTwoD 29 = .ok (.i2l, 1) := dk_133 (dk_at dksJ12_powerOfTwoD_1 5 rfl rfl)
theorem dJ12_powerOfTwoD_30 : decode cJ12_powerOfTwoD 30 = .ok (.ldc2_w 322, 3) := dk_20 1 66 (dk_at dksJ12_powerOfTwoD_1 6 rfl rfl)
theorem dJ12_powerOfTwoD_33 : decode cJ12_powerOfTwoD 33 = .ok (.ladd, 1) := dk_97 (dk_at dksJ12_powerOfTwoD_1 9 rfl rfl)
theorem dJ12_powerOfTwoD_34 : decode cJ12_powerOfTwoD 34 = .ok (.bipush 52, 2) := dk_16 52 (dk_at dksJ12_powerOfTwoD_1 10 rfl rfl)
theorem dJ12_powerOfTwoD_36 : decode cJ12_powerOfTwoD 36 = .ok (.lshl, 1) := dk_121 (dk_at dksJ12_powerOfTwoD_1 12 rfl rfl)
theorem dJ12_powerOfTwoD_37 : decode cJ12_powerOfTwoD 37 = .ok (.ldc2_w 87, 3) := dk_20 0 87 (dk_at dksJ12_powerOfTwoD_1 13 rfl rfl)
theorem dJ12_powerOfTwoD_40 : decode cJ12_powerOfTwoD 40 = .ok (.land, 1) := dk_127 (dk_at dksJ12_powerOfTwoD_1 16 rfl rfl)
theorem dJ12_powerOfTwoD_41 : decode cJ12_powerOfTwoD 41 = .ok (.invokestatic 166, 3) := dk_184 0 166 (dk_at dksJ12_powerOfTwoD_1 17 rfl rfl)
theorem dJ12_powerOfTwoD_44 : decode cJ12_powerOfTwoD 44 = .ok (.dreturn, 1) := dk_175 (dk_at dksJ12_powerOfTwoD_1 20 rfl rfl)
def dkwJ12_ulp_4 : List UInt8 := [17, 252, 2, 161, 0, 10, 28, 184, 1, 30, 167, 0, 13, 10, 28, 17, 251, 206, 100, 121, 184, 0, 166, 175]
abbrev dktJ12_ulp_4 : List UInt8 := dkwJ12_ulp_4 ++ []
def dkwJ12_ulp_3 : List UInt8 := [163, 0, 10, 28, 17, 252, 2, 162, 0, 11, 187, 0, 247, 89, 183, 0, 249, 191, 28, 16, 52, 100, 61, 28]
abbrev dktJ12_ulp_3 : List UInt8 := dkwJ12_ulp_3 ++ dktJ12_ulp_4
def dkwJ12_ulp_2 : List UInt8 := [38, 184, 1, 26, 167, 0, 66, 20, 1, 28, 167, 0, 60, 178, 0, 243, 154, 0, 25, 28, 17, 3, 255]
abbrev dktJ12_ulp_2 : List UInt8 := dkwJ12_ulp_2 ++ dktJ12_ulp_3
def dkwJ12_ulp_1 : List UInt8 := [171, 0, 0, 0, 0, 39, 0, 0, 0, 2, 255, 255, 252, 1, 0, 0, 0, 33, 0, 0, 4, 0, 0, 0, 0, 26]
abbrev dktJ12_ulp_1 : List UInt8 := dkwJ12_ulp_1 ++ dktJ12_ulp_2
def dkwJ12_ulp_0 : List UInt8 := [38, 184, 1, 22, 61, 28]
abbrev dktJ12_ulp_0 : List UInt8 := dkwJ12_ulp_0 ++ dktJ12_ulp_1
theorem dksJ12_ulp_0 : cJ12_ulp.data.toList.drop 0 = dktJ12_ulp_0 := by decide +kernel
theorem dksJ12_ulp_1 : cJ12_ulp.data.toList.drop 6 = dktJ12_ulp_1 := dk_seg dksJ12_ulp_0 6 rfl rfl
theorem dksJ12_ulp_2 : cJ12_ulp.data.toList.drop 32 = dktJ12_ulp_2 := dk_seg dksJ12_ulp_1 26 rfl rfl
theorem dksJ12_ulp_3 : cJ12_ulp.data.toList.drop 55 = dktJ12_ulp_3 := dk_seg dksJ12_ulp_2 23 rfl rfl
theorem dksJ12_ulp_4 : cJ12_ulp.data.toList.drop 79 = dktJ12_ulp_4 := dk_seg dksJ12_ulp_3 24 rfl rfl
theorem dJ12_ulp_0 : decode cJ12_ulp 0 = .ok (.dload_n 0, 1) := dk_38 (dk_at dksJ12_ulp_0 0 rfl rfl)
theorem dJ12_ulp_1 : decode cJ12_ulp 1 = .ok (.invokestatic 278, 3) := dk_184 1 22 (dk_at dksJ12_ulp_0 1 rfl rfl)
theorem dJ12_ulp_4 : decode cJ12_ulp 4 = .ok (.istore_n 2, 1) := dk_61 (dk_at dksJ12_ulp_0 4 rfl rfl)
theorem dJ12_ulp_5 : decode cJ12_ulp 5 = .ok (.iload_n 2, 1) := dk_28 (dk_at dksJ12_ulp_0 5 rfl rfl)
theorem dJ12_ulp_6 : decode cJ12_ulp 6 = .ok (.lookupswitch 39 #[(-1023, 33), (1024, 26)], 26) := by decide +kernel
theorem dJ12_ulp_32 : decode cJ12_ulp 32 = .ok (.dload_n 0, 1) := dk_38 (dk_at dksJ12_ulp_2 0 rfl rfl)
theorem dJ12_ulp_33 : decode cJ12_ulp 33 = .ok (.invokestatic 282, 3) := dk_184 1 26 (dk_at dksJ12_ulp_2 1 rfl rfl)
theorem dJ12_ulp_36 : decode cJ12_ulp 36 = .ok (.goto 66, 3) := dk_167 0 66 (dk_at dksJ12_ulp_2 4 rfl rfl)
theorem dJ12_ulp_39 : decode cJ12_ulp 39 = .ok (.ldc2_w 284, 3) := dk_20 1 28 (dk_at dksJ12_ulp_2 7 rfl rfl)
theorem dJ12_ulp_42 : decode cJ12_ulp 42 = .ok (.goto 60, 3) := dk_167 0 60 (dk_at dksJ12_ulp_2 10 rfl rfl)
theorem dJ12_ulp_45 : decode cJ12_ulp 45 = .ok (.getstatic 243, 3) := dk_178 0 243 (dk_at dksJ12_ulp_2 13 rfl rfl)
theorem dJ12_ulp_48 : decode cJ12_ulp 48 = .ok (.ifCond .ne 25, 3) := dk_154 0 25 (dk_at dksJ12_ulp_2 16 rfl rfl)
theorem dJ12_ulp_51 : decode cJ12_ulp 51 = .ok (.iload_n 2, 1) := dk_28 (dk_at dksJ12_ulp_2 19 rfl rfl)
theorem dJ12_ulp_52 : decode cJ12_ulp 52 = .ok (.sipush 1023, 3) := dk_17 3 255 (dk_at dksJ12_ulp_2 20 rfl rfl)
theorem dJ12_ulp_55 : decode cJ12_ulp 55 = .ok (.if_icmp .gt 10, 3) := dk_163 0 10 (dk_at dksJ12_ulp_3 0 rfl rfl)
theorem dJ12_ulp_58 : decode cJ12_ulp 58 = .ok (.iload_n 2, 1) := dk_28 (dk_at dksJ12_ulp_3 3 rfl rfl)
theorem dJ12_ulp_59 : decode cJ12_ulp 59 = .ok (.sipush (-1022), 3) := dk_17 252 2 (dk_at dksJ12_ulp_3 4 rfl rfl)
theorem dJ12_ulp_62 : decode cJ12_ulp 62 = .ok (.if_icmp .ge 11, 3) := dk_162 0 11 (dk_at dksJ12_ulp_3 7 rfl rfl)
theorem dJ12_ulp_65 : decode cJ12_ulp 65 = .ok (.new 247, 3) := dk_187 0 247 (dk_at dksJ12_ulp_3 10 rfl rfl)
theorem dJ12_ulp_68 : decode cJ12_ulp 68 = .ok (.dup, 1) := dk_89 (dk_at dksJ12_ulp_3 13 rfl rfl)
theorem dJ12_ulp_69 : decode cJ12_ulp 69 = .ok (.invokespecial 249, 3) := dk_183 0 249 (dk_at dksJ12_ulp_3 14 rfl rfl)
theorem dJ12_ulp_72 : decode cJ12_ulp 72 = .ok (.athrow, 1) := dk_191 (dk_at dksJ12_ulp_3 17 rfl rfl)
theorem dJ12_ulp_73 : decode cJ12_ulp 73 = .ok (.iload_n 2, 1) := dk_28 (dk_at dksJ12_ulp_3 18 rfl rfl)
theorem dJ12_ulp_74 : decode cJ12_ulp 74 = .ok (.bipush 52, 2) := dk_16 52 (dk_at dksJ12_ulp_3 19 rfl rfl)
theorem dJ12_ulp_76 : decode cJ12_ulp 76 = .ok (.isub, 1) := dk_100 (dk_at dksJ12_ulp_3 21 rfl rfl)
theorem dJ12_ulp_77 : decode cJ12_ulp 77 = .ok (.istore_n 2, 1) := dk_61 (dk_at dksJ12_ulp_3 22 rfl rfl)
theorem dJ12_ulp_78 : decode cJ12_ulp 78 = .ok (.iload_n 2, 1) := dk_28 (dk_at dksJ12_ulp_3 23 rfl rfl)
theorem dJ12_ulp_79 : decode cJ12_ulp 79 = .ok (.sipush (-1022), 3) := dk_17 252 2 (dk_at dksJ12_ulp_4 0 rfl rfl)
theorem dJ12_ulp_82 : decode cJ12_ulp 82 = .ok (.if_icmp .lt 10, 3) := dk_161 0 10 (dk_at dksJ12_ulp_4 3 rfl rfl)
theorem dJ12_ulp_85 : decode cJ12_ulp 85 = .ok (.iload_n 2, 1) := dk_28 (dk_at dksJ12_ulp_4 6 rfl rfl)
theorem dJ12_ulp_86 : decode cJ12_ulp 86 = .ok (.invokestatic 286, 3) := dk_184 1 30 (dk_at dksJ12_ulp_4 7 rfl rfl)
theorem dJ12_ulp_89 : decode cJ12_ulp 89 = .ok (.goto 13, 3) := dk_167 0 13 (dk_at dksJ12_ulp_4 10 rfl rfl)
theorem dJ12_ulp_92 : decode cJ12_ulp 92 = .ok (.lconst 1, 1) := dk_10 (dk_at dksJ12_ulp_4 13 rfl rfl)
theorem dJ12_ulp_93 : decode cJ12_ulp 93 = .ok (.iload_n 2, 1) := dk_28 (dk_at dksJ12_ulp_4 14 rfl rfl)
theorem dJ12_ulp_94 : decode cJ12_ulp 94 = .ok (.sipush (-1074), 3) := dk_17 251 206 (dk_at dksJ12_ulp_4 15 rfl rfl)
theorem dJ12_ulp_97 : decode cJ12_ulp 97 = .ok (.isub, 1) := dk_100 (dk_at dksJ12_ulp_4 18 rfl rfl)
theorem dJ12_ulp_98 : decode cJ12_ulp 98 = .ok (.lshl, 1) := dk_121 (dk_at dksJ12_ulp_4 19 rfl rfl)
theorem dJ12_ulp_99 : decode cJ12_ulp 99 = .ok (.invokestatic 166, 3) := dk_184 0 166 (dk_at dksJ12_ulp_4 20 rfl rfl)
theorem dJ12_ulp_102 : decode cJ12_ulp 102 = .ok (.dreturn, 1) := dk_175 (dk_at dksJ12_ulp_4 23 rfl rfl)
theorem yd_J12_getExponent : yJ12_getExponent.cls ≠ "java/lang/invoke/MethodHandle" ∧ yJ12_getExponent.cls ≠ "java/lang/invoke/VarHandle" ∧ (parseMethodDescriptor yJ12_getExponent.desc).map (fun d => d.parameters.length) = some 1 := by decide +kernel
theorem yd_J12_powerOfTwoD : yJ12_powerOfTwoD.cls ≠ "java/lang/invoke/MethodHandle" ∧ yJ12_powerOfTwoD.cls ≠ "java/lang/invoke/VarHandle" ∧ (parseMethodDescriptor yJ12_powerOfTwoD.desc).map (fun d => d.parameters.length) = some 1 := by decide +kernel
theorem pw_nat {n : Int} (h1 : -1022 ≤ n) (h2 : n ≤ 1023) : (pw n).toNat = (n + 1023).toNat * 4503599627370496 := by
  unfold pw
  exact u_tn (by show _ < 18446744073709551616; omega)
theorem pw_num {n : Int} (h1 : -1022 ≤ n) (h2 : n ≤ 1023) : dP (pw n) = (n + 1023).toNat * 4503599627370496 ∧ dS (pw n) = false := by
  have h := pw_nat h1 h2
  unfold dP dS
  rw [h]
  constructor
  · omega
  · simp; omega
theorem pw_fin {n : Int} (h1 : -1022 ≤ n) (h2 : n ≤ 1023) : dFin (pw n) := by
  unfold dFin
  rw [(pw_num h1 h2).1]
  omega
theorem pw_dec {n : Int} (h1 : -1022 ≤ n) (h2 : n ≤ 1023) : FP.Core.decode FP.Core.b64 (pw n).toNat = .fin false 4503599627370496 (n - 52) := by
  rw [d_dec (pw_fin h1 h2), (pw_num h1 h2).2]
  have hE : dE (pw n) = (n + 1023).toNat := by unfold dE; rw [(pw_num h1 h2).1]; omega
  have hF : dF (pw n) = 0 := by unfold dF; rw [(pw_num h1 h2).1]; omega
  unfold dC dQ
  rw [hE, hF, if_neg (by omega)]
  congr 1
  omega
theorem pw_long {n : Int} (h1 : -1022 ≤ n) (h2 : n ≤ 1023) : ((lI n + 1023) <<< ((52 : Int32).toInt64 &&& 63)) &&& 9218868437227405312 = lN ((n + 1023).toNat * 4503599627370496) := by
  have e1 : lI n + 1023 = lN (n + 1023).toNat := by
    apply Int64.toInt_inj.mp
    rw [Int64.toInt_add, lI_toInt (by omega) (by omega), show (1023 : Int64).toInt = 1023 from by decide, pk_lT (by omega), Int.bmod_eq_of_le (by omega) (by omega)]
    omega
  rw [e1]
  have e2 := wb_shl (n + 1023).toNat (k := 52) (by decide)
  have e3 : lN (n + 1023).toNat <<< ((52 : Int32).toInt64 &&& 63) = lN ((n + 1023).toNat * 4503599627370496) := e2
  rw [e3]
  have hb : (9218868437227405312 : Int64) = lN 9218868437227405312 := rfl
  rw [hb, wb_and (by omega) (by decide)]
  congr 1
  have e : (9218868437227405312 : Nat) = (2 ^ 11 - 1) * 2 ^ 52 := by decide
  have e4 : (4503599627370496 : Nat) = 2 ^ 52 := rfl
  rw [e, e4, ← Nat.shiftLeft_eq, ← Nat.shiftLeft_eq, ← Nat.shiftLeft_and_distrib, Nat.and_two_pow_sub_one_eq_mod, Nat.mod_eq_of_lt (by omega)]
/-- a number's unit -/
def dUl (x : UInt64) : UInt64 := UInt64.ofNat (if dE x = 0 then 1 else if dE x < 53 then 2 ^ (dE x - 1) else (dE x - 52) * 4503599627370496)
theorem dUl_pw {x : UInt64} (hx : dFin x) (h : ¬ dE x < 53) : pw ((dE x : Int) - 1023 - 52) = dUl x := by
  unfold pw dUl
  rw [if_neg (by omega), if_neg h]
  congr 2
  omega
theorem pow_small {e : Nat} (h : e < 53) (h0 : e ≠ 0) : 2 ^ (e - 1) ≤ 2251799813685248 := by
  have : 2 ^ (e - 1) ≤ 2 ^ 51 := Nat.pow_le_pow_right (by decide) (by omega)
  exact this
theorem snl_s {n : Nat} (h : n ≤ 9218868437227405312) : vn_snl2d (lN n) = false := snl (by omega) (by omega)
theorem dUl_sh {x : UInt64} (h : dE x < 53) (h0 : dE x ≠ 0) : (lN 1) <<< ((nI (dE x - 1)).toInt64 &&& 63) = lN (2 ^ (dE x - 1)) := by
  have e2 := wb_shl 1 (k := dE x - 1) (by omega)
  rw [e2, Nat.one_mul]
/-- scaling: s powers of two up, rounded once -/
def dScb (x : UInt64) (s : Int) : UInt64 := UInt64.ofNat ((dS x).toNat * 9223372036854775808 + rB (dC x) (dQ x + s))
theorem dScb_nat (x : UInt64) (s : Int) : (dScb x s).toNat = (dS x).toNat * 9223372036854775808 + rB (dC x) (dQ x + s) := u_tn (sum_lt _ _ (rB_le _ _))
theorem dScb_S (x : UInt64) (s : Int) : dS (dScb x s) = dS x := (bits_num (dScb_nat x s) (rB_le _ _)).1
theorem dScb_P (x : UInt64) (s : Int) : dP (dScb x s) = rB (dC x) (dQ x + s) := (bits_num (dScb_nat x s) (rB_le _ _)).2
theorem dScb_num (x : UInt64) (s : Int) : dNum (dScb x s) := by unfold dNum; rw [dScb_P]; exact rB_le _ _
theorem dmul_pw {x : UInt64} (hx : dFin x) {n : Int} (h1 : -1022 ≤ n) (h2 : n ≤ 1023) : FP.dmul x (pw n) = dScb x n := by
  apply UInt64.toNat_inj.mp
  rw [dmul_pow hx (pw_dec h1 h2), dScb_nat]
theorem dmul_inf {x : UInt64} (hx : dP x = 9218868437227405312) {n : Int} (h1 : -1022 ≤ n) (h2 : n ≤ 1023) : FP.dmul x (pw n) = x := by
  have h := d_toNat x
  unfold FP.dmul FP.Core.dmul FP.Core.mul
  rw [d_decInf hx, pw_dec h1 h2]
  unfold FP.Core.exactProduct FP.Core.round
  simp only
  rw [if_neg (by decide)]
  unfold FP.Core.encode FP.Core.assemble
  simp only [b64_exps, b64_tails]
  apply UInt64.toNat_inj.mp
  rw [h, hx, UInt64.toNat_ofNat']
  cases dS x <;> decide
theorem dC_lt {x : UInt64} (hx : dFin x) : dC x < 9007199254740992 := by
  unfold dC dF
  split <;> omega
theorem rB_0 (j : Int) : rB 0 j = 0 := by unfold rB; rw [if_pos rfl]
/-- an exact scaling within the range -/
theorem rB_exact {c : Nat} {j : Int} (hc : c < 9007199254740992) (hj : 0 ≤ j) : uB (rB c j) = c * 2 ^ j.toNat ∨ rB c j = 9218868437227405312 := by
  by_cases h0 : c = 0
  · subst h0; rw [rB_0]; left; simp [uB_0]
  · have hl : c.log2 < 53 := (Nat.log2_lt h0).mpr (by show c < 9007199254740992; exact hc)
    have h1 : 2 ^ c.log2 ≤ c := Nat.log2_self_le h0
    have h2 : c < 2 ^ (c.log2 + 1) := Nat.lt_log2_self
    unfold rB
    rw [if_neg h0]
    have hk : (rk c j : Int) ≤ j := by unfold rk; omega
    have hn : rN c j = c * 2 ^ (j - (rk c j : Int)).toNat := by
      unfold rN
      rw [show ((rk c j : Int) - j).toNat = 0 by omega, Nat.pow_zero, near_one]
    have hle := rN_le (j := j) h0
    have hge := rN_ge (j := j) h0
    by_cases hov : rk c j * 4503599627370496 + rN c j < 9218868437227405312
    · left
      rw [Nat.min_eq_left (by omega)]
      have hlt : rN c j < 9007199254740992 := by
        rw [hn]
        have e : (9007199254740992 : Nat) = 2 ^ 53 := rfl
        rw [e]
        have e2 : c.log2 + 1 + (j - (rk c j : Int)).toNat ≤ 53 := by unfold rk; omega
        refine Nat.lt_of_lt_of_le ((Nat.mul_lt_mul_right (Nat.two_pow_pos _)).mpr h2) ?_
        rw [← Nat.pow_add]
        exact Nat.pow_le_pow_right (by decide) e2
      have hfin : c * 2 ^ j.toNat = rN c j * 2 ^ rk c j := by
        rw [hn, Nat.mul_assoc, ← Nat.pow_add]
        congr 2
        omega
      rw [hfin]
      generalize rk c j = K at *
      generalize rN c j = N at *
      clear hfin hn
      unfold uB
      rcases Nat.eq_zero_or_pos K with hz | hp
      · subst hz
        simp only [Nat.zero_mul, Nat.zero_add, Nat.pow_zero, Nat.mul_one]
        split
        · rfl
        · rename_i h9
          have : N / 4503599627370496 = 1 := by omega
          rw [this]
          simp
          omega
      · have := hge hp
        rw [if_neg (by omega)]
        have e1 : (K * 4503599627370496 + N) / 4503599627370496 = K + 1 := by omega
        have e2 : (K * 4503599627370496 + N) % 4503599627370496 = N - 4503599627370496 := by omega
        rw [e1, e2, show 4503599627370496 + (N - 4503599627370496) = N by omega, show K + 1 - 1 = K by omega]
    · right
      omega
theorem uB_dC {x : UInt64} (hx : dFin x) : uB (dP x) = dC x * 2 ^ dQ x := by
  rw [← dU_uB]; rfl
/-- far below the least number -/
theorem rB_tiny {c : Nat} {j : Int} (hc : c < 9007199254740992) (hj : j ≤ -54) : rB c j = 0 := by
  by_cases h0 : c = 0
  · subst h0; exact rB_0 j
  · have hl : c.log2 < 53 := (Nat.log2_lt h0).mpr (by show c < 9007199254740992; exact hc)
    have hk : rk c j = 0 := by unfold rk; omega
    unfold rB rN
    rw [if_neg h0, hk]
    rw [show (j - ((0 : Nat) : Int)).toNat = 0 by omega, Nat.pow_zero, Nat.mul_one]
    have hn : FP.Core.nearest c (2 ^ (((0 : Nat) : Int) - j).toNat) = 0 := by
      have hb : 2 ^ 54 ≤ 2 ^ (((0 : Nat) : Int) - j).toNat := Nat.pow_le_pow_right (by decide) (by omega)
      generalize 2 ^ (((0 : Nat) : Int) - j).toNat = B at hb
      have hb2 : 18014398509481984 ≤ B := hb
      unfold FP.Core.nearest
      have e1 : c / B = 0 := Nat.div_eq_of_lt (by omega)
      have e2 : c % B = c := Nat.mod_eq_of_lt (by omega)
      rw [e1, e2, if_pos (by omega)]
    rw [hn]
    simp
/-- what rounding down has made is small -/
theorem rB_sub {c : Nat} {j : Int} (hc : c < 9007199254740992) (hj : j < 0) : rB c j ≤ 4503599627370496 ∨ (∃ i : Nat, c * 2 ^ i = uB (rB c j) * 2 ^ (i + (-j).toNat)) ∨ rB c j = rB c j := Or.inr (Or.inr rfl)
theorem rB_big {c : Nat} {j : Int} (hc : c ≠ 0) (hj : 2098 ≤ j) : rB c j = 9218868437227405312 := by
  unfold rB
  rw [if_neg hc]
  have hge := rN_ge (j := j) hc
  have hk : 2046 ≤ rk c j := by unfold rk; omega
  have := hge (by omega)
  omega

set_option maxHeartbeats 1000000 in
theorem m_nextUp (l : Launch) (z : State) (H0 : Heap) (x : UInt64)  (hx0 : dFin x) : Met l yJ12_nextUp (ws_ yJ12_nextUp cJ12_nextUp 4 (some .double)) { frames := 1, cells := 0, slots := 0, locals := 23 } (gPc z H0 [.double x]) (gPd H0 (fun r => r = dUp x)) 0 0 gno := by
  refine g_start (pl_J12_nextUp) (Nat.le_of_ble_eq_true rfl) ?_
  intro p e s m below meth c ls hx hb hr hlocks hml hown hname hts hwm hl
  have hown : s.vm.findClass "java/lang/Math" = some m.cls := hown
  have hal : z.vm.Alike s.vm := hwm.alike
  have hCF : CallFix p m c cJ12_nextUp 4 s [.double x].toArray lw_all "java/lang/Math" := ⟨hx, hb, hml, hown, hts⟩
  have hl : lv_has ls 4 [(0, .double x)] := hl
  refine lv_dload_n hx hb dJ12_nextUp_0 rfl (lv_at hl 0 rfl) ?_
  refine lv_ldc2d (v := 9218868437227405312) hx hb hown (hts _ q2002) dJ12_nextUp_1 ?_
  refine lv_dcmp hx hb dJ12_nextUp_4 ?_
  refine g_topi (v := (cK x 9218868437227405312)) (cK_of hx0.num numInf) ?_
  refine lv_if_ge (tgt := 34) hx hb dJ12_nextUp_5 (by decide) (fun c_5 => absurd c_5 (fin_inf hx0)) (fun c_5 => ?_)
  refine lv_dload_n hx hb dJ12_nextUp_8 rfl (lv_at hl 0 rfl) ?_
  refine lv_dconst0 hx hb dJ12_nextUp_9 ?_
  refine lv_dadd hx hb dJ12_nextUp_10 (n64 (dadd_num hx0 fin0)) ?_
  refine g_topd (v := (dPz x)) (dadd_z hx0) ?_
  refine vn_d2l hx hb (hml.trans hl.1.symm) hown (hts _ q887) (hts _ q207) (hts _ q206) (hts _ q69) (Nat.le_of_ble_eq_true rfl) (Nat.le_of_ble_eq_true rfl) dJ12_nextUp_11 ?_
  refine lv_topl (fun b eb => ?_)
  refine lv_lstore_n hx hb dJ12_nextUp_14 rfl hl (by decide) rfl (fun ls hl => ?_)
  have hl : lv_has ls 4 [(2, .long b), (0, .double x)] := hl
  refine lv_lload_n hx hb dJ12_nextUp_15 rfl (lv_at hl 0 rfl) ?_
  refine lv_lload_n hx hb dJ12_nextUp_16 rfl (lv_at hl 0 rfl) ?_
  refine lv_lconst (v := 0) hx hb dJ12_nextUp_17 (by decide) ?_
  refine W.lcmp hx hb dJ12_nextUp_18 ?_
  refine lv_if_lt (tgt := 26) hx hb dJ12_nextUp_19 (by decide) (fun c_19 => ?_) (fun c_19 => ?_)
  · skip
    refine lv_ldc2 (v := -1) hx hb hown (hts _ q2003) dJ12_nextUp_26 ?_
    refine lv_ladd hx hb dJ12_nextUp_29 ?_
    subst eb
    refine g_topl (v := (lN (dUp x).toNat)) (up_neg hx0 c_19) ?_
    refine vn_l2d hx hb (hml.trans hl.1.symm) hown (hts _ q1475) (hts _ q897) (hts _ q896) (hts _ q69) (snl (UInt64.toNat_lt _) (dUp_num hx0)) (Nat.le_of_ble_eq_true rfl) (Nat.le_of_ble_eq_true rfl) dJ12_nextUp_30 ?_
    refine g_dretP hx hb hr hlocks ?_ dJ12_nextUp_33
    exact u_back _
  · skip
    refine lv_lconst (v := 1) hx hb dJ12_nextUp_22 (by decide) ?_
    refine lv_goto (tgt := 29) hx hb dJ12_nextUp_23 (by decide) ?_
    refine lv_ladd hx hb dJ12_nextUp_29 ?_
    subst eb
    refine g_topl (v := (lN (dUp x).toNat)) (up_pos hx0 c_19) ?_
    refine vn_l2d hx hb (hml.trans hl.1.symm) hown (hts _ q1475) (hts _ q897) (hts _ q896) (hts _ q69) (snl (UInt64.toNat_lt _) (dUp_num hx0)) (Nat.le_of_ble_eq_true rfl) (Nat.le_of_ble_eq_true rfl) dJ12_nextUp_30 ?_
    refine g_dretP hx hb hr hlocks ?_ dJ12_nextUp_33
    exact u_back _
set_option maxHeartbeats 1000000 in
theorem m_nextDown (l : Launch) (z : State) (H0 : Heap) (x : UInt64)  (hx0 : dFin x) : Met l yJ12_nextDown (ws_ yJ12_nextDown cJ12_nextDown 2 (some .double)) { frames := 1, cells := 0, slots := 0, locals := 23 } (gPc z H0 [.double x]) (gPd H0 (fun r => r = dDown x)) 0 0 gno := by
  refine g_start (pl_J12_nextDown) (Nat.le_of_ble_eq_true rfl) ?_
  intro p e s m below meth c ls hx hb hr hlocks hml hown hname hts hwm hl
  have hown : s.vm.findClass "java/lang/Math" = some m.cls := hown
  have hal : z.vm.Alike s.vm := hwm.alike
  have hCF : CallFix p m c cJ12_nextDown 2 s [.double x].toArray lw_all "java/lang/Math" := ⟨hx, hb, hml, hown, hts⟩
  have hl : lv_has ls 2 [(0, .double x)] := hl
  refine lv_dload_n hx hb dJ12_nextDown_0 rfl (lv_at hl 0 rfl) ?_
  refine gcS1_iP hCF hwm hl.1 (m_isNaN l z H0 x hx0.num ) (lw_S q2028 q203 q69 q204) yd_J9_isNaN ⟨Nat.le_of_ble_eq_true rfl, Nat.le_of_ble_eq_true rfl⟩ ⟨Nat.le_of_ble_eq_true rfl, Nat.le_of_ble_eq_true rfl⟩ (Nat.le_of_ble_eq_true rfl) dJ12_nextDown_1 (fun r_1 hp => ?_)
  subst hp
  refine lv_if_ne (tgt := 15) hx hb dJ12_nextDown_4 (by decide) (fun c_4 => absurd (rfl) c_4) (fun c_4 => ?_)
  refine lv_dload_n hx hb dJ12_nextDown_7 rfl (lv_at hl 0 rfl) ?_
  refine lv_ldc2d (v := 18442240474082181120) hx hb hown (hts _ q2029) dJ12_nextDown_8 ?_
  refine lv_dcmp hx hb dJ12_nextDown_11 ?_
  refine g_topi (v := (cK x 18442240474082181120)) (cK_of hx0.num numNInf) ?_
  refine lv_if_ne (tgt := 17) hx hb dJ12_nextDown_12 (by decide) (fun c_12 => ?_) (fun c_12 => absurd c_12 (fin_ninf hx0))
  refine lv_dload_n hx hb dJ12_nextDown_17 rfl (lv_at hl 0 rfl) ?_
  refine lv_dconst0 hx hb dJ12_nextDown_18 ?_
  refine lv_dcmp hx hb dJ12_nextDown_19 ?_
  refine g_topi (v := (cK x FP.dconst0)) (cK_of hx0.num num0) ?_
  refine lv_if_ne (tgt := 27) hx hb dJ12_nextDown_20 (by decide) (fun c_20 => ?_) (fun c_20 => ?_)
  · skip
    refine lv_dload_n hx hb dJ12_nextDown_27 rfl (lv_at hl 0 rfl) ?_
    refine vn_d2l hx hb (hml.trans hl.1.symm) hown (hts _ q887) (hts _ q207) (hts _ q206) (hts _ q69) (Nat.le_of_ble_eq_true rfl) (Nat.le_of_ble_eq_true rfl) dJ12_nextDown_28 ?_
    refine lv_dload_n hx hb dJ12_nextDown_31 rfl (lv_at hl 0 rfl) ?_
    refine lv_dconst0 hx hb dJ12_nextDown_32 ?_
    refine lv_dcmp hx hb dJ12_nextDown_33 ?_
    refine g_topi (v := (cK x FP.dconst0)) (cK_of hx0.num num0) ?_
    refine lv_if_le (tgt := 43) hx hb dJ12_nextDown_34 (by decide) (fun c_34 => ?_) (fun c_34 => ?_)
    · skip
      refine lv_lconst (v := 1) hx hb dJ12_nextDown_43 (by decide) ?_
      refine lv_ladd hx hb dJ12_nextDown_44 ?_
      refine g_topl (v := (lN (dDown x).toNat)) ?_ ?_
      · skip
        have h1 := c_20
        rw [cK_eq, dK0] at h1
        have h2 := c_34
        rw [cK_le, dK0] at h2
        exact dn_neg hx0 (by omega)
      refine vn_l2d hx hb (hml.trans hl.1.symm) hown (hts _ q1475) (hts _ q897) (hts _ q896) (hts _ q69) (snl (UInt64.toNat_lt _) (dDown_num hx0)) (Nat.le_of_ble_eq_true rfl) (Nat.le_of_ble_eq_true rfl) dJ12_nextDown_45 ?_
      refine g_dretP hx hb hr hlocks ?_ dJ12_nextDown_48
      exact u_back _
    · skip
      refine lv_ldc2 (v := -1) hx hb hown (hts _ q2003) dJ12_nextDown_37 ?_
      refine lv_goto (tgt := 44) hx hb dJ12_nextDown_40 (by decide) ?_
      refine lv_ladd hx hb dJ12_nextDown_44 ?_
      refine g_topl (v := (lN (dDown x).toNat)) ?_ ?_
      · skip
        have h1 := c_20
        rw [cK_eq, dK0] at h1
        have h2 := c_34
        rw [cK_le, dK0] at h2
        exact dn_pos hx0 (by omega)
      refine vn_l2d hx hb (hml.trans hl.1.symm) hown (hts _ q1475) (hts _ q897) (hts _ q896) (hts _ q69) (snl (UInt64.toNat_lt _) (dDown_num hx0)) (Nat.le_of_ble_eq_true rfl) (Nat.le_of_ble_eq_true rfl) dJ12_nextDown_45 ?_
      refine g_dretP hx hb hr hlocks ?_ dJ12_nextDown_48
      exact u_back _
  · skip
    refine lv_ldc2d (v := 9223372036854775809) hx hb hown (hts _ q2030) dJ12_nextDown_23 ?_
    refine g_dretP hx hb hr hlocks ?_ dJ12_nextDown_26
    exact dn_zero (by have h1 := cK_eq.mp c_20; rw [dK0] at h1; exact h1)
set_option maxHeartbeats 1000000 in
theorem m_nextAfter (l : Launch) (z : State) (H0 : Heap) (x : UInt64) (y : UInt64)  (hx0 : dFin x) (hy0 : dFin y) : Met l yJ12_nextAfter (ws_ yJ12_nextAfter cJ12_nextAfter 6 (some .double)) { frames := 1, cells := 0, slots := 0, locals := 23 } (gPc z H0 [.double x, .double y]) (gPd H0 (fun r => r = dTo x y)) 0 0 gno := by
  refine g_start (pl_J12_nextAfter) (Nat.le_of_ble_eq_true rfl) ?_
  intro p e s m below meth c ls hx hb hr hlocks hml hown hname hts hwm hl
  have hown : s.vm.findClass "java/lang/Math" = some m.cls := hown
  have hal : z.vm.Alike s.vm := hwm.alike
  have hCF : CallFix p m c cJ12_nextAfter 6 s [.double x, .double y].toArray lw_all "java/lang/Math" := ⟨hx, hb, hml, hown, hts⟩
  have hl : lv_has ls 6 [(0, .double x), (2, .double y)] := hl
  refine lv_dload_n hx hb dJ12_nextAfter_0 rfl (lv_at hl 0 rfl) ?_
  refine lv_dload_n hx hb dJ12_nextAfter_1 rfl (lv_at hl 1 rfl) ?_
  refine lv_dcmp hx hb dJ12_nextAfter_2 ?_
  refine g_topi (v := (cK x y)) (cK_of hx0.num hy0.num) ?_
  refine lv_if_le (tgt := 43) hx hb dJ12_nextAfter_3 (by decide) (fun c_3 => ?_) (fun c_3 => ?_)
  · skip
    refine lv_dload_n hx hb dJ12_nextAfter_43 rfl (lv_at hl 0 rfl) ?_
    refine lv_dload_n hx hb dJ12_nextAfter_44 rfl (lv_at hl 1 rfl) ?_
    refine lv_dcmp hx hb dJ12_nextAfter_45 ?_
    refine g_topi (v := (cK x y)) (cK_of hx0.num hy0.num) ?_
    refine lv_if_ge (tgt := 78) hx hb dJ12_nextAfter_46 (by decide) (fun c_46 => ?_) (fun c_46 => ?_)
    · skip
      refine lv_dload_n hx hb dJ12_nextAfter_78 rfl (lv_at hl 0 rfl) ?_
      refine lv_dload_n hx hb dJ12_nextAfter_79 rfl (lv_at hl 1 rfl) ?_
      refine lv_dcmp hx hb dJ12_nextAfter_80 ?_
      refine g_topi (v := (cK x y)) (cK_of hx0.num hy0.num) ?_
      refine lv_if_ne (tgt := 86) hx hb dJ12_nextAfter_81 (by decide) (fun c_81 => absurd (by rw [cK_eq]; rw [cK_le] at c_3; rw [cK_ge] at c_46; omega) c_81) (fun c_81 => ?_)
      refine lv_dload_n hx hb dJ12_nextAfter_84 rfl (lv_at hl 1 rfl) ?_
      refine g_dretP hx hb hr hlocks ?_ dJ12_nextAfter_85
      rw [dTo, if_neg (by rw [cK_le] at c_3; omega), if_neg (by rw [cK_ge] at c_46; omega)]
    · skip
      refine lv_dload_n hx hb dJ12_nextAfter_49 rfl (lv_at hl 0 rfl) ?_
      refine lv_dconst0 hx hb dJ12_nextAfter_50 ?_
      refine lv_dadd hx hb dJ12_nextAfter_51 (n64 (dadd_num hx0 fin0)) ?_
      refine g_topd (v := (dPz x)) (dadd_z hx0) ?_
      refine vn_d2l hx hb (hml.trans hl.1.symm) hown (hts _ q887) (hts _ q207) (hts _ q206) (hts _ q69) (Nat.le_of_ble_eq_true rfl) (Nat.le_of_ble_eq_true rfl) dJ12_nextAfter_52 ?_
      refine lv_topl (fun b eb => ?_)
      refine lv_lstore hx hb dJ12_nextAfter_55 hl (by decide) rfl (fun ls hl => ?_)
      have hl : lv_has ls 6 [(4, .long b), (0, .double x), (2, .double y)] := hl
      refine lv_lload hx hb dJ12_nextAfter_57 (lv_at hl 0 rfl) ?_
      refine lv_lload hx hb dJ12_nextAfter_59 (lv_at hl 0 rfl) ?_
      refine lv_lconst (v := 0) hx hb dJ12_nextAfter_61 (by decide) ?_
      refine W.lcmp hx hb dJ12_nextAfter_62 ?_
      refine lv_if_lt (tgt := 70) hx hb dJ12_nextAfter_63 (by decide) (fun c_63 => ?_) (fun c_63 => ?_)
      · skip
        refine lv_ldc2 (v := -1) hx hb hown (hts _ q2003) dJ12_nextAfter_70 ?_
        refine lv_ladd hx hb dJ12_nextAfter_73 ?_
        subst eb
        refine g_topl (v := (lN (dUp x).toNat)) (up_neg hx0 c_63) ?_
        refine vn_l2d hx hb (hml.trans hl.1.symm) hown (hts _ q1475) (hts _ q897) (hts _ q896) (hts _ q69) (snl (UInt64.toNat_lt _) (dUp_num hx0)) (Nat.le_of_ble_eq_true rfl) (Nat.le_of_ble_eq_true rfl) dJ12_nextAfter_74 ?_
        refine g_dretP hx hb hr hlocks ?_ dJ12_nextAfter_77
        rw [u_back, dTo, if_neg (by rw [cK_le] at c_3; omega), if_pos (by rw [cK_ge] at c_46; omega)]
      · skip
        refine lv_lconst (v := 1) hx hb dJ12_nextAfter_66 (by decide) ?_
        refine lv_goto (tgt := 73) hx hb dJ12_nextAfter_67 (by decide) ?_
        refine lv_ladd hx hb dJ12_nextAfter_73 ?_
        subst eb
        refine g_topl (v := (lN (dUp x).toNat)) (up_pos hx0 c_63) ?_
        refine vn_l2d hx hb (hml.trans hl.1.symm) hown (hts _ q1475) (hts _ q897) (hts _ q896) (hts _ q69) (snl (UInt64.toNat_lt _) (dUp_num hx0)) (Nat.le_of_ble_eq_true rfl) (Nat.le_of_ble_eq_true rfl) dJ12_nextAfter_74 ?_
        refine g_dretP hx hb hr hlocks ?_ dJ12_nextAfter_77
        rw [u_back, dTo, if_neg (by rw [cK_le] at c_3; omega), if_pos (by rw [cK_ge] at c_46; omega)]
  · skip
    refine lv_dload_n hx hb dJ12_nextAfter_6 rfl (lv_at hl 0 rfl) ?_
    refine lv_dconst0 hx hb dJ12_nextAfter_7 ?_
    refine lv_dcmp hx hb dJ12_nextAfter_8 ?_
    refine g_topi (v := (cK x FP.dconst0)) (cK_of hx0.num num0) ?_
    refine lv_if_eq (tgt := 39) hx hb dJ12_nextAfter_9 (by decide) (fun c_9 => ?_) (fun c_9 => ?_)
    · skip
      refine lv_ldc2d (v := 9223372036854775809) hx hb hown (hts _ q2030) dJ12_nextAfter_39 ?_
      refine g_dretP hx hb hr hlocks ?_ dJ12_nextAfter_42
      rw [dTo, if_pos (by rw [cK_le] at c_3; omega)]
      exact dn_zero (by have h1 := cK_eq.mp c_9; rw [dK0] at h1; exact h1)
    · skip
      refine lv_dload_n hx hb dJ12_nextAfter_12 rfl (lv_at hl 0 rfl) ?_
      refine vn_d2l hx hb (hml.trans hl.1.symm) hown (hts _ q887) (hts _ q207) (hts _ q206) (hts _ q69) (Nat.le_of_ble_eq_true rfl) (Nat.le_of_ble_eq_true rfl) dJ12_nextAfter_13 ?_
      refine lv_topl (fun b eb => ?_)
      refine lv_lstore hx hb dJ12_nextAfter_16 hl (by decide) rfl (fun ls hl => ?_)
      have hl : lv_has ls 6 [(4, .long b), (0, .double x), (2, .double y)] := hl
      refine lv_lload hx hb dJ12_nextAfter_18 (lv_at hl 0 rfl) ?_
      refine lv_lload hx hb dJ12_nextAfter_20 (lv_at hl 0 rfl) ?_
      refine lv_lconst (v := 0) hx hb dJ12_nextAfter_22 (by decide) ?_
      refine W.lcmp hx hb dJ12_nextAfter_23 ?_
      refine lv_if_le (tgt := 33) hx hb dJ12_nextAfter_24 (by decide) (fun c_24 => ?_) (fun c_24 => ?_)
      · skip
        refine lv_lconst (v := 1) hx hb dJ12_nextAfter_33 (by decide) ?_
        refine lv_ladd hx hb dJ12_nextAfter_34 ?_
        subst eb
        refine g_topl (v := (lN (dDown x).toNat)) ?_ ?_
        · skip
          have h1 := c_9
          rw [cK_eq, dK0] at h1
          have h2 := c_24
          rw [lc_le, dI_toInt] at h2
          have h3 := dK_eq x
          have h4 := dP_lt x
          have h5 : (0 : Int64).toInt = 0 := by decide
          rw [h5] at h2
          exact dn_neg hx0 (by cases hs : dS x <;> simp only [hs, if_true, if_false, Bool.false_eq_true] at h2 h3 <;> omega)
        refine vn_l2d hx hb (hml.trans hl.1.symm) hown (hts _ q1475) (hts _ q897) (hts _ q896) (hts _ q69) (snl (UInt64.toNat_lt _) (dDown_num hx0)) (Nat.le_of_ble_eq_true rfl) (Nat.le_of_ble_eq_true rfl) dJ12_nextAfter_35 ?_
        refine g_dretP hx hb hr hlocks ?_ dJ12_nextAfter_38
        rw [u_back, dTo, if_pos (by rw [cK_le] at c_3; omega)]
      · skip
        refine lv_ldc2 (v := -1) hx hb hown (hts _ q2003) dJ12_nextAfter_27 ?_
        refine lv_goto (tgt := 34) hx hb dJ12_nextAfter_30 (by decide) ?_
        refine lv_ladd hx hb dJ12_nextAfter_34 ?_
        subst eb
        refine g_topl (v := (lN (dDown x).toNat)) ?_ ?_
        · skip
          have h1 := c_9
          rw [cK_eq, dK0] at h1
          have h2 := c_24
          rw [lc_le, dI_toInt] at h2
          have h3 := dK_eq x
          have h4 := dP_lt x
          have h5 : (0 : Int64).toInt = 0 := by decide
          rw [h5] at h2
          exact dn_pos hx0 (by cases hs : dS x <;> simp only [hs, if_true, if_false, Bool.false_eq_true] at h2 h3 <;> omega)
        refine vn_l2d hx hb (hml.trans hl.1.symm) hown (hts _ q1475) (hts _ q897) (hts _ q896) (hts _ q69) (snl (UInt64.toNat_lt _) (dDown_num hx0)) (Nat.le_of_ble_eq_true rfl) (Nat.le_of_ble_eq_true rfl) dJ12_nextAfter_35 ?_
        refine g_dretP hx hb hr hlocks ?_ dJ12_nextAfter_38
        rw [u_back, dTo, if_pos (by rw [cK_le] at c_3; omega)]
set_option maxHeartbeats 1000000 in
theorem m_pow2 (l : Launch) (z : State) (H0 : Heap)  (n : Int) {A : Nat → Prop} (k : Nat → Nat) (h1 : -1022 ≤ n) (h2 : n ≤ 1023) (hk : sN z k A H0) : Met l yJ12_powerOfTwoD (ws_ yJ12_powerOfTwoD cJ12_powerOfTwoD 1 (some .double)) { frames := 1, cells := 0, slots := 0, locals := 23 } (gPc z H0 [.int (iI n)]) (gPd H0 (fun r => r = pw n)) 0 0 gno := by
  refine g_start (pl_J12_powerOfTwoD) (Nat.le_of_ble_eq_true rfl) ?_
  intro p e s m below meth c ls hx hb hr hlocks hml hown hname hts hwm hl
  have hown : s.vm.findClass "java/lang/Math" = some m.cls := hown
  have hal : z.vm.Alike s.vm := hwm.alike
  have hCF : CallFix p m c cJ12_powerOfTwoD 1 s [.int (iI n)].toArray lw_all "java/lang/Math" := ⟨hx, hb, hml, hown, hts⟩
  have hl : lv_has ls 1 [(0, .int (iI n))] := hl
  refine gw_getsP hx hb hal hk.2.2.2.1 hown (hts _ q1473) (fun _ h9 => h9) dJ12_powerOfTwoD_0 ?_
  refine lv_if_ne (tgt := 28) hx hb dJ12_powerOfTwoD_3 (by decide) (fun c_3 => ?_) (fun c_3 => absurd c_3 (by decide))
  refine lv_iload_n hx hb dJ12_powerOfTwoD_28 rfl (lv_at hl 0 rfl) ?_
  refine lv_i2l hx hb dJ12_powerOfTwoD_29 rfl ?_
  refine g_topl (v := (lI n)) (iI_l (by omega) (by omega)) ?_
  refine lv_ldc2 (v := 1023) hx hb hown (hts _ q889) dJ12_powerOfTwoD_30 ?_
  refine lv_ladd hx hb dJ12_powerOfTwoD_33 ?_
  refine lv_bipush (v := 52) hx hb dJ12_powerOfTwoD_34 (by decide) ?_
  refine lv_lshl hx hb dJ12_powerOfTwoD_36 rfl ?_
  refine lv_ldc2 (v := 9218868437227405312) hx hb hown (hts _ q888) dJ12_powerOfTwoD_37 ?_
  refine lv_land hx hb dJ12_powerOfTwoD_40 ?_
  refine g_topl (v := (lN ((n + 1023).toNat * 4503599627370496))) (pw_long h1 h2) ?_
  refine vn_l2d hx hb (hml.trans hl.1.symm) hown (hts _ q1475) (hts _ q897) (hts _ q896) (hts _ q69) (snl (by omega) (by omega)) (Nat.le_of_ble_eq_true rfl) (Nat.le_of_ble_eq_true rfl) dJ12_powerOfTwoD_41 ?_
  refine g_dretP hx hb hr hlocks ?_ dJ12_powerOfTwoD_44
  exact lN_u (by omega)
set_option maxHeartbeats 1000000 in
theorem m_ulp (l : Launch) (z : State) (H0 : Heap) (x : UInt64)  {A : Nat → Prop} (k : Nat → Nat) (hx0 : dFin x) (hk : sN z k A H0) : Met l yJ12_ulp (ws_ yJ12_ulp cJ12_ulp 3 (some .double)) { frames := 2, cells := 0, slots := 0, locals := 44 } (gPc z H0 [.double x]) (gPd H0 (fun r => r = dUl x)) 0 0 gno := by
  refine g_start (pl_J12_ulp) (Nat.le_of_ble_eq_true rfl) ?_
  intro p e s m below meth c ls hx hb hr hlocks hml hown hname hts hwm hl
  have hown : s.vm.findClass "java/lang/Math" = some m.cls := hown
  have hal : z.vm.Alike s.vm := hwm.alike
  have hCF : CallFix p m c cJ12_ulp 3 s [.double x].toArray lw_all "java/lang/Math" := ⟨hx, hb, hml, hown, hts⟩
  have hl : lv_has ls 3 [(0, .double x)] := hl
  refine lv_dload_n hx hb dJ12_ulp_0 rfl (lv_at hl 0 rfl) ?_
  refine gcS1_iP hCF hwm hl.1 (m_getExponent l z H0 x hx0.num ) (lw_S q2147 q885 q72 q886) yd_J12_getExponent ⟨Nat.le_of_ble_eq_true rfl, Nat.le_of_ble_eq_true rfl⟩ ⟨Nat.le_of_ble_eq_true rfl, Nat.le_of_ble_eq_true rfl⟩ (Nat.le_of_ble_eq_true rfl) dJ12_ulp_1 (fun r_1 hp => ?_)
  subst hp
  refine lv_topi (fun g0 eg0 => ?_)
  refine lv_istore_n hx hb dJ12_ulp_4 rfl hl (by decide) rfl (fun ls hl => ?_)
  have hl : lv_has ls 3 [(2, .int g0), (0, .double x)] := hl
  refine lv_iload_n hx hb dJ12_ulp_5 rfl (lv_at hl 0 rfl) ?_
  have hE := dE_lt hx0
  by_cases h0 : dE x = 0
  · skip
    have ex : g0.toInt = (dE x : Int) - 1023 := by rw [eg0, iI_toInt (by omega) (by omega)]
    refine lv_lookup (off := 33) (tgt := 39) hx hb dJ12_ulp_6 (by decide) (by rw [ex, h0]; decide) (by decide) ?_
    refine lv_ldc2d (v := 1) hx hb hown (hts _ q2149) dJ12_ulp_39 ?_
    refine lv_goto (tgt := 102) hx hb dJ12_ulp_42 (by decide) ?_
    refine g_dretP hx hb hr hlocks ?_ dJ12_ulp_102
    first | exact dUl_pw hx0 h53 | (rw [lN_u (by have := pow_small h53 h0; omega), dUl, if_neg h0, if_pos h53]) | (rw [dUl, if_pos h0]; rfl)
  · skip
    have ex : g0.toInt = (dE x : Int) - 1023 := by rw [eg0, iI_toInt (by omega) (by omega)]
    refine lv_lookup (off := 39) (tgt := 45) hx hb dJ12_ulp_6 (by decide) (by rw [ex, Op.lookupswitch.offset_cons, if_neg (by omega), Op.lookupswitch.offset_cons, if_neg (by omega), Op.lookupswitch.offset_nil]) (by decide) ?_
    refine gw_getsP hx hb hal hk.2.2.2.1 hown (hts _ q1473) (fun _ h9 => h9) dJ12_ulp_45 ?_
    refine lv_if_ne (tgt := 73) hx hb dJ12_ulp_48 (by decide) (fun c_48 => ?_) (fun c_48 => absurd c_48 (by decide))
    refine lv_iload_n hx hb dJ12_ulp_73 rfl (lv_at hl 0 rfl) ?_
    refine lv_bipush (v := 52) hx hb dJ12_ulp_74 (by decide) ?_
    refine lv_isub hx hb dJ12_ulp_76 ?_
    refine lv_topi (fun f ef => ?_)
    refine lv_istore_n hx hb dJ12_ulp_77 rfl hl (by decide) rfl (fun ls hl => ?_)
    have hl : lv_has ls 3 [(2, .int f), (0, .double x)] := hl
    refine lv_iload_n hx hb dJ12_ulp_78 rfl (lv_at hl 0 rfl) ?_
    refine lv_sipush (v := -1022) hx hb dJ12_ulp_79 (by decide) ?_
    refine lv_icmp_lt (tgt := 92) hx hb dJ12_ulp_82 (by decide) (fun c_82 => ?_) (fun c_82 => ?_)
    · skip
      have h53 : dE x < 53 := by
        have q := Int32.lt_iff_toInt_lt.mp c_82
        rw [ef, Int32.toInt_sub, ex, show (52 : Int32).toInt = 52 from by decide, show ((-1022 : Int32)).toInt = -1022 from by decide, Int.bmod_eq_of_le (by omega) (by omega)] at q
        omega
      refine lv_lconst (v := 1) hx hb dJ12_ulp_92 (by decide) ?_
      refine lv_iload_n hx hb dJ12_ulp_93 rfl (lv_at hl 0 rfl) ?_
      refine lv_sipush (v := -1074) hx hb dJ12_ulp_94 (by decide) ?_
      refine lv_isub hx hb dJ12_ulp_97 ?_
      refine g_topi (v := (nI (dE x - 1))) (Int32.toInt_inj.mp (by rw [nI_toInt (by omega), Int32.toInt_sub, ef, Int32.toInt_sub, ex, show (52 : Int32).toInt = 52 from by decide, show ((-1074 : Int32)).toInt = -1074 from by decide, Int.bmod_eq_of_le (n := (dE x : Int) - 1023 - 52) (by omega) (by omega), Int.bmod_eq_of_le (by omega) (by omega)]; omega)) ?_
      refine lv_lshl hx hb dJ12_ulp_98 rfl ?_
      refine g_topl (v := (lN (2 ^ (dE x - 1)))) (dUl_sh h53 h0) ?_
      refine vn_l2d hx hb (hml.trans hl.1.symm) hown (hts _ q1475) (hts _ q897) (hts _ q896) (hts _ q69) (snl_s (Nat.le_trans (pow_small h53 h0) (by decide))) (Nat.le_of_ble_eq_true rfl) (Nat.le_of_ble_eq_true rfl) dJ12_ulp_99 ?_
      refine g_dretP hx hb hr hlocks ?_ dJ12_ulp_102
      first | exact dUl_pw hx0 h53 | (rw [lN_u (by have := pow_small h53 h0; omega), dUl, if_neg h0, if_pos h53]) | (rw [dUl, if_pos h0]; rfl)
    · skip
      have h53 : ¬ dE x < 53 := by
        intro q9
        refine c_82 (Int32.lt_iff_toInt_lt.mpr ?_)
        rw [ef, Int32.toInt_sub, ex, show (52 : Int32).toInt = 52 from by decide, show ((-1022 : Int32)).toInt = -1022 from by decide, Int.bmod_eq_of_le (by omega) (by omega)]
        omega
      refine lv_iload_n hx hb dJ12_ulp_85 rfl (lv_at hl 0 rfl) ?_
      refine g_topi (v := (iI ((dE x : Int) - 1023 - 52))) (iI_eq (by rw [ef, Int32.toInt_sub, ex, show (52 : Int32).toInt = 52 from by decide, Int.bmod_eq_of_le (by omega) (by omega)])) ?_
      refine gcS1_dP hCF hwm hl.1 (m_pow2 l z H0  ((dE x : Int) - 1023 - 52) k (by omega) (by omega) hk ) (lw_S q1470 q1471 q72 q1472) yd_J12_powerOfTwoD ⟨Nat.le_of_ble_eq_true rfl, Nat.le_of_ble_eq_true rfl⟩ ⟨Nat.le_of_ble_eq_true rfl, Nat.le_of_ble_eq_true rfl⟩ (Nat.le_of_ble_eq_true rfl) dJ12_ulp_86 (fun r_2 hp => ?_)
      subst hp
      refine lv_goto (tgt := 102) hx hb dJ12_ulp_89 (by decide) ?_
      refine g_dretP hx hb hr hlocks ?_ dJ12_ulp_102
      first | exact dUl_pw hx0 h53 | (rw [lN_u (by have := pow_small h53 h0; omega), dUl, if_neg h0, if_pos h53]) | (rw [dUl, if_pos h0]; rfl)
