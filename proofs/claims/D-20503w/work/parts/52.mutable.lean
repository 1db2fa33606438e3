/-! ## walks (written by tools) -/
set_option maxRecDepth 100000
def dkwJ24_divWord_4 : List UInt8 := [167, 255, 237, 22, 5, 16, 32, 121, 22, 7, 20, 0, 52, 127, 129, 173]
abbrev dktJ24_divWord_4 : List UInt8 := dkwJ24_divWord_4 ++ []
def dkwJ24_divWord_3 : List UInt8 := [167, 255, 237, 22, 5, 33, 148, 155, 0, 18, 22, 5, 33, 101, 55, 5, 22, 7, 10, 97, 55, 7]
abbrev dktJ24_divWord_3 : List UInt8 := dkwJ24_divWord_3 ++ dktJ24_divWord_4
def dkwJ24_divWord_2 : List UInt8 := [105, 101, 55, 5, 22, 5, 9, 148, 156, 0, 18, 22, 5, 33, 97, 55, 5, 22, 7, 10, 101, 55, 7]
abbrev dktJ24_divWord_2 : List UInt8 := dkwJ24_divWord_2 ++ dktJ24_divWord_3
def dkwJ24_divWord_1 : List UInt8 := [16, 32, 121, 22, 7, 20, 0, 52, 127, 129, 173, 30, 4, 125, 33, 4, 125, 109, 55, 7, 30, 22, 7, 33]
abbrev dktJ24_divWord_1 : List UInt8 := dkwJ24_divWord_1 ++ dktJ24_divWord_2
def dkwJ24_divWord_0 : List UInt8 := [28, 133, 20, 0, 52, 127, 66, 33, 10, 148, 154, 0, 24, 30, 136, 133, 55, 7, 9, 55, 5, 22, 5]
abbrev dktJ24_divWord_0 : List UInt8 := dkwJ24_divWord_0 ++ dktJ24_divWord_1
theorem dksJ24_divWord_0 : cJ24_divWord.data.toList.drop 0 = dktJ24_divWord_0 := by decide +kernel
theorem dksJ24_divWord_1 : cJ24_divWord.data.toList.drop 23 = dktJ24_divWord_1 := dk_seg dksJ24_divWord_0 23 rfl rfl
theorem dksJ24_divWord_2 : cJ24_divWord.data.toList.drop 47 = dktJ24_divWord_2 := dk_seg dksJ24_divWord_1 24 rfl rfl
theorem dksJ24_divWord_3 : cJ24_divWord.data.toList.drop 70 = dktJ24_divWord_3 := dk_seg dksJ24_divWord_2 23 rfl rfl
theorem dksJ24_divWord_4 : cJ24_divWord.data.toList.drop 92 = dktJ24_divWord_4 := dk_seg dksJ24_divWord_3 22 rfl rfl
theorem dJ24_divWord_0 : decode cJ24_divWord 0 = .ok (.iload_n 2, 1) := dk_28 (dk_at dksJ24_divWord_0 0 rfl rfl)
theorem dJ24_divWord_1 : decode cJ24_divWord 1 = .ok (.i2l, 1) := dk_133 (dk_at dksJ24_divWord_0 1 rfl rfl)
theorem dJ24_divWord_2 : decode cJ24_divWord 2 = .ok (.ldc2_w 52, 3) := dk_20 0 52 (dk_at dksJ24_divWord_0 2 rfl rfl)
theorem dJ24_divWord_5 : decode cJ24_divWord 5 = .ok (.land, 1) := dk_127 (dk_at dksJ24_divWord_0 5 rfl rfl)
theorem dJ24_divWord_6 : decode cJ24_divWord 6 = .ok (.lstore_n 3, 1) := dk_66 (dk_at dksJ24_divWord_0 6 rfl rfl)
theorem dJ24_divWord_7 : decode cJ24_divWord 7 = .ok (.lload_n 3, 1) := dk_33 (dk_at dksJ24_divWord_0 7 rfl rfl)
theorem dJ24_divWord_8 : decode cJ24_divWord 8 = .ok (.lconst 1, 1) := dk_10 (dk_at dksJ24_divWord_0 8 rfl rfl)
theorem dJ24_divWord_9 : decode cJ24_divWord 9 = .ok (.lcmp, 1) := dk_148 (dk_at dksJ24_divWord_0 9 rfl rfl)
theorem dJ24_divWord_10 : decode cJ24_divWord 10 = .ok (.ifCond .ne 24, 3) := dk_154 0 24 (dk_at dksJ24_divWord_0 10 rfl rfl)
theorem dJ24_divWord_13 : decode cJ24_divWord 13 = .ok (.lload_n 0, 1) := dk_30 (dk_at dksJ24_divWord_0 13 rfl rfl)
theorem dJ24_divWord_14 : decode cJ24_divWord 14 = .ok (.l2i, 1) := dk_136 (dk_at dksJ24_divWord_0 14 rfl rfl)
theorem dJ24_divWord_15 : decode cJ24_divWord 15 = .ok (.i2l, 1) := dk_133 (dk_at dksJ24_divWord_0 15 rfl rfl)
theorem dJ24_divWord_16 : decode cJ24_divWord 16 = .ok (.lstore 7, 2) := dk_55 7 (dk_at dksJ24_divWord_0 16 rfl rfl)
theorem dJ24_divWord_18 : decode cJ24_divWord 18 = .ok (.lconst 0, 1) := dk_9 (dk_at dksJ24_divWord_0 18 rfl rfl)
theorem dJ24_divWord_19 : decode cJ24_divWord 19 = .ok (.lstore 5, 2) := dk_55 5 (dk_at dksJ24_divWord_0 19 rfl rfl)
theorem dJ24_divWord_21 : decode cJ24_divWord 21 = .ok (.lload 5, 2) := dk_22 5 (dk_at dksJ24_divWord_0 21 rfl rfl)
theorem dJ24_divWord_23 : decode cJ24_divWord 23 = .ok (.bipush 32, 2) := dk_16 32 (dk_at dksJ24_divWord_1 0 rfl rfl)
theorem dJ24_divWord_25 : decode cJ24_divWord 25 = .ok (.lshl, 1) := dk_121 (dk_at dksJ24_divWord_1 2 rfl rfl)
theorem dJ24_divWord_26 : decode cJ24_divWord 26 = .ok (.lload 7, 2) := dk_22 7 (dk_at dksJ24_divWord_1 3 rfl rfl)
theorem dJ24_divWord_28 : decode cJ24_divWord 28 = .ok (.ldc2_w 52, 3) := dk_20 0 52 (dk_at dksJ24_divWord_1 5 rfl rfl)
theorem dJ24_divWord_31 : decode cJ24_divWord 31 = .ok (.land, 1) := dk_127 (dk_at dksJ24_divWord_1 8 rfl rfl)
theorem dJ24_divWord_32 : decode cJ24_divWord 32 = .ok (.lor, 1) := dk_129 (dk_at dksJ24_divWord_1 9 rfl rfl)
theorem dJ24_divWord_33 : decode cJ24_divWord 33 = .ok (.lreturn, 1) := dk_173 (dk_at dksJ24_divWord_1 10 rfl rfl)
theorem dJ24_divWord_34 : decode cJ24_divWord 34 = .ok (.lload_n 0, 1) := dk_30 (dk_at dksJ24_divWord_1 11 rfl rfl)
theorem dJ24_divWord_35 : decode cJ24_divWord 35 = .ok (.iconst 1, 1) := dk_4 (dk_at dksJ24_divWord_1 12 rfl rfl)
theorem dJ24_divWord_36 : decode cJ24_divWord 36 = .ok (.lushr, 1) := dk_125 (dk_at dksJ24_divWord_1 13 rfl rfl)
theorem dJ24_divWord_37 : decode cJ24_divWord 37 = .ok (.lload_n 3, 1) := dk_33 (dk_at dksJ24_divWord_1 14 rfl rfl)
theorem dJ24_divWord_38 : decode cJ24_divWord 38 = .ok (.iconst 1, 1) := dk_4 (dk_at dksJ24_divWord_1 15 rfl rfl)
theorem dJ24_divWord_39 : decode cJ24_divWord 39 = .ok (.lushr, 1) := dk_125 (dk_at dksJ24_divWord_1 16 rfl rfl)
theorem dJ24_divWord_40 : decode cJ24_divWord 40 = .ok (.ldiv, 1) := dk_109 (dk_at dksJ24_divWord_1 17 rfl rfl)
theorem dJ24_divWord_41 : decode cJ24_divWord 41 = .ok (.lstore 7, 2) := dk_55 7 (dk_at dksJ24_divWord_1 18 rfl rfl)
theorem dJ24_divWord_43 : decode cJ24_divWord 43 = .ok (.lload_n 0, 1) := dk_30 (dk_at dksJ24_divWord_1 20 rfl rfl)
theorem dJ24_divWord_44 : decode cJ24_divWord 44 = .ok (.lload 7, 2) := dk_22 7 (dk_at dksJ24_divWord_1 21 rfl rfl)
theorem dJ24_divWord_46 : decode cJ24_divWord 46 = .ok (.lload_n 3, 1) := dk_33 (dk_at dksJ24_divWord_1 23 rfl rfl)
theorem dJ24_divWord_47 : decode cJ24_divWord 47 = .ok (.lmul, 1) := dk_105 (dk_at dksJ24_divWord_2 0 rfl rfl)
theorem dJ24_divWord_48 : decode cJ24_divWord 48 = .ok (.lsub, 1) := dk_101 (dk_at dksJ24_divWord_2 1 rfl rfl)
theorem dJ24_divWord_49 : decode cJ24_divWord 49 = .ok (.lstore 5, 2) := dk_55 5 (dk_at dksJ24_divWord_2 2 rfl rfl)
theorem dJ24_divWord_51 : decode cJ24_divWord 51 = .ok (.lload 5, 2) := dk_22 5 (dk_at dksJ24_divWord_2 4 rfl rfl)
theorem dJ24_divWord_53 : decode cJ24_divWord 53 = .ok (.lconst 0, 1) := dk_9 (dk_at dksJ24_divWord_2 6 rfl rfl)
theorem dJ24_divWord_54 : decode cJ24_divWord 54 = .ok (.lcmp, 1) := dk_148 (dk_at dksJ24_divWord_2 7 rfl rfl)
theorem dJ24_divWord_55 : decode cJ24_divWord 55 = .ok (.ifCond .ge 18, 3) := dk_156 0 18 (dk_at dksJ24_divWord_2 8 rfl rfl)
theorem dJ24_divWord_58 : decode cJ24_divWord 58 = .ok (.lload 5, 2) := dk_22 5 (dk_at dksJ24_divWord_2 11 rfl rfl)
theorem dJ24_divWord_60 : decode cJ24_divWord 60 = .ok (.lload_n 3, 1) := dk_33 (dk_at dksJ24_divWord_2 13 rfl rfl)
theorem dJ24_divWord_61 : decode cJ24_divWord 61 = .ok (.ladd, 1) := dk_97 (dk_at dksJ24_divWord_2 14 rfl rfl)
theorem dJ24_divWord_62 : decode cJ24_divWord 62 = .ok (.lstore 5, 2) := dk_55 5 (dk_at dksJ24_divWord_2 15 rfl rfl)
theorem dJ24_divWord_64 : decode cJ24_divWord 64 = .ok (.lload 7, 2) := dk_22 7 (dk_at dksJ24_divWord_2 17 rfl rfl)
theorem dJ24_divWord_66 : decode cJ24_divWord 66 = .ok (.lconst 1, 1) := dk_10 (dk_at dksJ24_divWord_2 19 rfl rfl)
theorem dJ24_divWord_67 : decode cJ24_divWord 67 = .ok (.lsub, 1) := dk_101 (dk_at dksJ24_divWord_2 20 rfl rfl)
theorem dJ24_divWord_68 : decode cJ24_divWord 68 = .ok (.lstore 7, 2) := dk_55 7 (dk_at dksJ24_divWord_2 21 rfl rfl)
theorem dJ24_divWord_70 : decode cJ24_divWord 70 = .ok (.goto (-19), 3) := dk_167 255 237 (dk_at dksJ24_divWord_3 0 rfl rfl)
theorem dJ24_divWord_73 : decode cJ24_divWord 73 = .ok (.lload 5, 2) := dk_22 5 (dk_at dksJ24_divWord_3 3 rfl rfl)
theorem dJ24_divWord_75 : decode cJ24_divWord 75 = .ok (.lload_n 3, 1) := dk_33 (dk_at dksJ24_divWord_3 5 rfl rfl)
theorem dJ24_divWord_76 : decode cJ24_divWord 76 = .ok (.lcmp, 1) := dk_148 (dk_at dksJ24_divWord_3 6 rfl rfl)
theorem dJ24_divWord_77 : decode cJ24_divWord 77 = .ok (.ifCond .lt 18, 3) := dk_155 0 18 (dk_at dksJ24_divWord_3 7 rfl rfl)
theorem dJ24_divWord_80 : decode cJ24_divWord 80 = .ok (.lload 5, 2) := dk_22 5 (dk_at dksJ24_divWord_3 10 rfl rfl)
theorem dJ24_divWord_82 : decode cJ24_divWord 82 = .ok (.lload_n 3, 1) := dk_33 (dk_at dksJ24_divWord_3 12 rfl rfl)
theorem dJ24_divWord_83 : decode cJ24_divWord 83 = .ok (.lsub, 1) := dk_101 (dk_at dksJ24_divWord_3 13 rfl rfl)
theorem dJ24_divWord_84 : decode cJ24_divWord 84 = .ok (.lstore 5, 2) := dk_55 5 (dk_at dksJ24_divWord_3 14 rfl rfl)
theorem dJ24_divWord_86 : decode cJ24_divWord 86 = .ok (.lload 7, 2) := dk_22 7 (dk_at dksJ24_divWord_3 16 rfl rfl)
theorem dJ24_divWord_88 : decode cJ24_divWord 88 = .ok (.lconst 1, 1) := dk_10 (dk_at dksJ24_divWord_3 18 rfl rfl)
theorem dJ24_divWord_89 : decode cJ24_divWord 89 = .ok (.ladd, 1) := dk_97 (dk_at dksJ24_divWord_3 19 rfl rfl)
theorem dJ24_divWord_90 : decode cJ24_divWord 90 = .ok (.lstore 7, 2) := dk_55 7 (dk_at dksJ24_divWord_3 20 rfl rfl)
theorem dJ24_divWord_92 : decode cJ24_divWord 92 = .ok (.goto (-19), 3) := dk_167 255 237 (dk_at dksJ24_divWord_4 0 rfl rfl)
theorem dJ24_divWord_95 : decode cJ24_divWord 95 = .ok (.lload 5, 2) := dk_22 5 (dk_at dksJ24_divWord_4 3 rfl rfl)
theorem dJ24_divWord_97 : decode cJ24_divWord 97 = .ok (.bipush 32, 2) := dk_16 32 (dk_at dksJ24_divWord_4 5 rfl rfl)
theorem dJ24_divWord_99 : decode cJ24_divWord 99 = .ok (.lshl, 1) := dk_121 (dk_at dksJ24_divWord_4 7 rfl rfl)
theorem dJ24_divWord_100 : decode cJ24_divWord 100 = .ok (.lload 7, 2) := dk_22 7 (dk_at dksJ24_divWord_4 8 rfl rfl)
theorem dJ24_divWord_102 : decode cJ24_divWord 102 = .ok (.ldc2_w 52, 3) := dk_20 0 52 (dk_at dksJ24_divWord_4 10 rfl rfl)
theorem dJ24_divWord_105 : decode cJ24_divWord 105 = .ok (.land, 1) := dk_127 (dk_at dksJ24_divWord_4 13 rfl rfl)
theorem dJ24_divWord_106 : decode cJ24_divWord 106 = .ok (.lor, 1) := dk_129 (dk_at dksJ24_divWord_4 14 rfl rfl)
theorem dJ24_divWord_107 : decode cJ24_divWord 107 = .ok (.lreturn, 1) := dk_173 (dk_at dksJ24_divWord_4 15 rfl rfl)
def dkwJ24_copyAndShift_3 : List UInt8 := [120, 79, 177]
abbrev dktJ24_copyAndShift_3 : List UInt8 := dkwJ24_copyAndShift_3 ++ []
def dkwJ24_copyAndShift_2 : List UInt8 := [21, 7, 21, 6, 124, 128, 79, 132, 8, 1, 167, 255, 215, 45, 21, 4, 28, 96, 4, 100, 21, 7, 21, 5]
abbrev dktJ24_copyAndShift_2 : List UInt8 := dkwJ24_copyAndShift_2 ++ dktJ24_copyAndShift_3
def dkwJ24_copyAndShift_1 : List UInt8 := [21, 7, 54, 9, 42, 132, 1, 1, 27, 46, 54, 7, 45, 21, 4, 21, 8, 96, 21, 9, 21, 5, 120]
abbrev dktJ24_copyAndShift_1 : List UInt8 := dkwJ24_copyAndShift_1 ++ dktJ24_copyAndShift_2
def dkwJ24_copyAndShift_0 : List UInt8 := [16, 32, 21, 5, 100, 54, 6, 42, 27, 46, 54, 7, 3, 54, 8, 21, 8, 28, 4, 100, 162, 0, 39]
abbrev dktJ24_copyAndShift_0 : List UInt8 := dkwJ24_copyAndShift_0 ++ dktJ24_copyAndShift_1
theorem dksJ24_copyAndShift_0 : cJ24_copyAndShift.data.toList.drop 0 = dktJ24_copyAndShift_0 := by decide +kernel
theorem dksJ24_copyAndShift_1 : cJ24_copyAndShift.data.toList.drop 23 = dktJ24_copyAndShift_1 := dk_seg dksJ24_copyAndShift_0 23 rfl rfl
theorem dksJ24_copyAndShift_2 : cJ24_copyAndShift.data.toList.drop 46 = dktJ24_copyAndShift_2 := dk_seg dksJ24_copyAndShift_1 23 rfl rfl
theorem dksJ24_copyAndShift_3 : cJ24_copyAndShift.data.toList.drop 70 = dktJ24_copyAndShift_3 := dk_seg dksJ24_copyAndShift_2 24 rfl rfl
theorem dJ24_copyAndShift_0 : decode cJ24_copyAndShift 0 = .ok (.bipush 32, 2) := dk_16 32 (dk_at dksJ24_copyAndShift_0 0 rfl rfl)
theorem dJ24_copyAndShift_2 : decode cJ24_copyAndShift 2 = .ok (.iload 5, 2) := dk_21 5 (dk_at dksJ24_copyAndShift_0 2 rfl rfl)
theorem dJ24_copyAndShift_4 : decode cJ24_copyAndShift 4 = .ok (.isub, 1) := dk_100 (dk_at dksJ24_copyAndShift_0 4 rfl rfl)
theorem dJ24_copyAndShift_5 : decode cJ24_copyAndShift 5 = .ok (.istore 6, 2) := dk_54 6 (dk_at dksJ24_copyAndShift_0 5 rfl rfl)
theorem dJ24_copyAndShift_7 : decode cJ24_copyAndShift 7 = .ok (.aload_n 0, 1) := dk_42 (dk_at dksJ24_copyAndShift_0 7 rfl rfl)
theorem dJ24_copyAndShift_8 : decode cJ24_copyAndShift 8 = .ok (.iload_n 1, 1) := dk_27 (dk_at dksJ24_copyAndShift_0 8 rfl rfl)
theorem dJ24_copyAndShift_9 : decode cJ24_copyAndShift 9 = .ok (.iaload, 1) := dk_46 (dk_at dksJ24_copyAndShift_0 9 rfl rfl)
theorem dJ24_copyAndShift_10 : decode cJ24_copyAndShift 10 = .ok (.istore 7, 2) := dk_54 7 (dk_at dksJ24_copyAndShift_0 10 rfl rfl)
theorem dJ24_copyAndShift_12 : decode cJ24_copyAndShift 12 = .ok (.iconst 0, 1) := dk_3 (dk_at dksJ24_copyAndShift_0 12 rfl rfl)
theorem dJ24_copyAndShift_13 : decode cJ24_copyAndShift 13 = .ok (.istore 8, 2) := dk_54 8 (dk_at dksJ24_copyAndShift_0 13 rfl rfl)
theorem dJ24_copyAndShift_15 : decode cJ24_copyAndShift 15 = .ok (.iload 8, 2) := dk_21 8 (dk_at dksJ24_copyAndShift_0 15 rfl rfl)
theorem dJ24_copyAndShift_17 : decode cJ24_copyAndShift 17 = .ok (.iload_n 2, 1) := dk_28 (dk_at dksJ24_copyAndShift_0 17 rfl rfl)
theorem dJ24_copyAndShift_18 : decode cJ24_copyAndShift 18 = .ok (.iconst 1, 1) := dk_4 (dk_at dksJ24_copyAndShift_0 18 rfl rfl)
theorem dJ24_copyAndShift_19 : decode cJ24_copyAndShift 19 = .ok (.isub, 1) := dk_100 (dk_at dksJ24_copyAndShift_0 19 rfl rfl)
theorem dJ24_copyAndShift_20 : decode cJ24_copyAndShift 20 = .ok (.if_icmp .ge 39, 3) := dk_162 0 39 (dk_at dksJ24_copyAndShift_0 20 rfl rfl)
theorem dJ24_copyAndShift_23 : decode cJ24_copyAndShift 23 = .ok (.iload 7, 2) := dk_21 7 (dk_at dksJ24_copyAndShift_1 0 rfl rfl)
theorem dJ24_copyAndShift_25 : decode cJ24_copyAndShift 25 = .ok (.istore 9, 2) := dk_54 9 (dk_at dksJ24_copyAndShift_1 2 rfl rfl)
theorem dJ24_copyAndShift_27 : decode cJ24_copyAndShift 27 = .ok (.aload_n 0, 1) := dk_42 (dk_at dksJ24_copyAndShift_1 4 rfl rfl)
theorem dJ24_copyAndShift_28 : decode cJ24_copyAndShift 28 = .ok (.iinc 1 1, 3) := dk_132 1 1 (dk_at dksJ24_copyAndShift_1 5 rfl rfl)
theorem dJ24_copyAndShift_31 : decode cJ24_copyAndShift 31 = .ok (.iload_n 1, 1) := dk_27 (dk_at dksJ24_copyAndShift_1 8 rfl rfl)
theorem dJ24_copyAndShift_32 : decode cJ24_copyAndShift 32 = .ok (.iaload, 1) := dk_46 (dk_at dksJ24_copyAndShift_1 9 rfl rfl)
theorem dJ24_copyAndShift_33 : decode cJ24_copyAndShift 33 = .ok (.istore 7, 2) := dk_54 7 (dk_at dksJ24_copyAndShift_1 10 rfl rfl)
theorem dJ24_copyAndShift_35 : decode cJ24_copyAndShift 35 = .ok (.aload_n 3, 1) := dk_45 (dk_at dksJ24_copyAndShift_1 12 rfl rfl)
theorem dJ24_copyAndShift_36 : decode cJ24_copyAndShift 36 = .ok (.iload 4, 2) := dk_21 4 (dk_at dksJ24_copyAndShift_1 13 rfl rfl)
theorem dJ24_copyAndShift_38 : decode cJ24_copyAndShift 38 = .ok (.iload 8, 2) := dk_21 8 (dk_at dksJ24_copyAndShift_1 15 rfl rfl)
theorem dJ24_copyAndShift_40 : decode cJ24_copyAndShift 40 = .ok (.iadd, 1) := dk_96 (dk_at dksJ24_copyAndShift_1 17 rfl rfl)
theorem dJ24_copyAndShift_41 : decode cJ24_copyAndShift 41 = .ok (.iload 9, 2) := dk_21 9 (dk_at dksJ24_copyAndShift_1 18 rfl rfl)
theorem dJ24_copyAndShift_43 : decode cJ24_copyAndShift 43 = .ok (.iload 5, 2) := dk_21 5 (dk_at dksJ24_copyAndShift_1 20 rfl rfl)
theorem dJ24_copyAndShift_45 : decode cJ24_copyAndShift 45 = .ok (.ishl, 1) := dk_120 (dk_at dksJ24_copyAndShift_1 22 rfl rfl)
theorem dJ24_copyAndShift_46 : decode cJ24_copyAndShift 46 = .ok (.iload 7, 2) := dk_21 7 (dk_at dksJ24_copyAndShift_2 0 rfl rfl)
theorem dJ24_copyAndShift_48 : decode cJ24_copyAndShift 48 = .ok (.iload 6, 2) := dk_21 6 (dk_at dksJ24_copyAndShift_2 2 rfl rfl)
theorem dJ24_copyAndShift_50 : decode cJ24_copyAndShift 50 = .ok (.iushr, 1) := dk_124 (dk_at dksJ24_copyAndShift_2 4 rfl rfl)
theorem dJ24_copyAndShift_51 : decode cJ24_copyAndShift 51 = .ok (.ior, 1) := dk_128 (dk_at dksJ24_copyAndShift_2 5 rfl rfl)
theorem dJ24_copyAndShift_52 : decode cJ24_copyAndShift 52 = .ok (.iastore, 1) := dk_79 (dk_at dksJ24_copyAndShift_2 6 rfl rfl)
theorem dJ24_copyAndShift_53 : decode cJ24_copyAndShift 53 = .ok (.iinc 8 1, 3) := dk_132 8 1 (dk_at dksJ24_copyAndShift_2 7 rfl rfl)
theorem dJ24_copyAndShift_56 : decode cJ24_copyAndShift 56 = .ok (.goto (-41), 3) := dk_167 255 215 (dk_at dksJ24_copyAndShift_2 10 rfl rfl)
theorem dJ24_copyAndShift_59 : decode cJ24_copyAndShift 59 = .ok (.aload_n 3, 1) := dk_45 (dk_at dksJ24_copyAndShift_2 13 rfl rfl)
theorem dJ24_copyAndShift_60 : decode cJ24_copyAndShift 60 = .ok (.iload 4, 2) := dk_21 4 (dk_at dksJ24_copyAndShift_2 14 rfl rfl)
theorem dJ24_copyAndShift_62 : decode cJ24_copyAndShift 62 = .ok (.iload_n 2, 1) := dk_28 (dk_at dksJ24_copyAndShift_2 16 rfl rfl)
theorem dJ24_copyAndShift_63 : decode cJ24_copyAndShift 63 = .ok (.iadd, 1) := dk_96 (dk_at dksJ24_copyAndShift_2 17 rfl rfl)
theorem dJ24_copyAndShift_64 : decode cJ24_copyAndShift 64 = .ok (.iconst 1, 1) := dk_4 (dk_at dksJ24_copyAndShift_2 18 rfl rfl)
theorem dJ24_copyAndShift_65 : decode cJ24_copyAndShift 65 = .ok (.isub, 1) := dk_100 (dk_at dksJ24_copyAndShift_2 19 rfl rfl)
theorem dJ24_copyAndShift_66 : decode cJ24_copyAndShift 66 = .ok (.iload 7, 2) := dk_21 7 (dk_at dksJ24_copyAndShift_2 20 rfl rfl)
theorem dJ24_copyAndShift_68 : decode cJ24_copyAndShift 68 = .ok (.iload 5, 2) := dk_21 5 (dk_at dksJ24_copyAndShift_2 22 rfl rfl)
theorem dJ24_copyAndShift_70 : decode cJ24_copyAndShift 70 = .ok (.ishl, 1) := dk_120 (dk_at dksJ24_copyAndShift_3 0 rfl rfl)
theorem dJ24_copyAndShift_71 : decode cJ24_copyAndShift 71 = .ok (.iastore, 1) := dk_79 (dk_at dksJ24_copyAndShift_3 1 rfl rfl)
theorem dJ24_copyAndShift_72 : decode cJ24_copyAndShift 72 = .ok (.return_, 1) := dk_177 (dk_at dksJ24_copyAndShift_3 2 rfl rfl)
def dkwJ24_init_0 : List UInt8 := [42, 183, 0, 5, 42, 3, 181, 0, 11, 42, 4, 188, 10, 181, 0, 17, 42, 3, 181, 0, 21, 177]
abbrev dktJ24_init_0 : List UInt8 := dkwJ24_init_0 ++ []
theorem dksJ24_init_0 : cJ24_init.data.toList.drop 0 = dktJ24_init_0 := by decide +kernel
theorem dJ24_init_0 : decode cJ24_init 0 = .ok (.aload_n 0, 1) := dk_42 (dk_at dksJ24_init_0 0 rfl rfl)
theorem dJ24_init_1 : decode cJ24_init 1 = .ok (.invokespecial 5, 3) := dk_183 0 5 (dk_at dksJ24_init_0 1 rfl rfl)
theorem dJ24_init_4 : decode cJ24_init 4 = .ok (.aload_n 0, 1) := dk_42 (dk_at dksJ24_init_0 4 rfl rfl)
theorem dJ24_init_5 : decode cJ24_init 5 = .ok (.iconst 0, 1) := dk_3 (dk_at dksJ24_init_0 5 rfl rfl)
theorem dJ24_init_6 : decode cJ24_init 6 = .ok (.putfield 11, 3) := dk_181 0 11 (dk_at dksJ24_init_0 6 rfl rfl)
theorem dJ24_init_9 : decode cJ24_init 9 = .ok (.aload_n 0, 1) := dk_42 (dk_at dksJ24_init_0 9 rfl rfl)
theorem dJ24_init_10 : decode cJ24_init 10 = .ok (.iconst 1, 1) := dk_4 (dk_at dksJ24_init_0 10 rfl rfl)
theorem dJ24_init_11 : decode cJ24_init 11 = .ok (.newarray .int, 2) := dk_188_10 (dk_at dksJ24_init_0 11 rfl rfl)
theorem dJ24_init_13 : decode cJ24_init 13 = .ok (.putfield 17, 3) := dk_181 0 17 (dk_at dksJ24_init_0 13 rfl rfl)
theorem dJ24_init_16 : decode cJ24_init 16 = .ok (.aload_n 0, 1) := dk_42 (dk_at dksJ24_init_0 16 rfl rfl)
theorem dJ24_init_17 : decode cJ24_init 17 = .ok (.iconst 0, 1) := dk_3 (dk_at dksJ24_init_0 17 rfl rfl)
theorem dJ24_init_18 : decode cJ24_init 18 = .ok (.putfield 21, 3) := dk_181 0 21 (dk_at dksJ24_init_0 18 rfl rfl)
theorem dJ24_init_21 : decode cJ24_init 21 = .ok (.return_, 1) := dk_177 (dk_at dksJ24_init_0 21 rfl rfl)
def dkwJ24_init_2_0 : List UInt8 := [42, 183, 0, 5, 42, 3, 181, 0, 11, 42, 43, 181, 0, 17, 42, 43, 190, 181, 0, 21, 177]
abbrev dktJ24_init_2_0 : List UInt8 := dkwJ24_init_2_0 ++ []
theorem dksJ24_init_2_0 : cJ24_init_2.data.toList.drop 0 = dktJ24_init_2_0 := by decide +kernel
theorem dJ24_init_2_0 : decode cJ24_init_2 0 = .ok (.aload_n 0, 1) := dk_42 (dk_at dksJ24_init_2_0 0 rfl rfl)
theorem dJ24_init_2_1 : decode cJ24_init_2 1 = .ok (.invokespecial 5, 3) := dk_183 0 5 (dk_at dksJ24_init_2_0 1 rfl rfl)
theorem dJ24_init_2_4 : decode cJ24_init_2 4 = .ok (.aload_n 0, 1) := dk_42 (dk_at dksJ24_init_2_0 4 rfl rfl)
theorem dJ24_init_2_5 : decode cJ24_init_2 5 = .ok (.iconst 0, 1) := dk_3 (dk_at dksJ24_init_2_0 5 rfl rfl)
theorem dJ24_init_2_6 : decode cJ24_init_2 6 = .ok (.putfield 11, 3) := dk_181 0 11 (dk_at dksJ24_init_2_0 6 rfl rfl)
theorem dJ24_init_2_9 : decode cJ24_init_2 9 = .ok (.aload_n 0, 1) := dk_42 (dk_at dksJ24_init_2_0 9 rfl rfl)
theorem dJ24_init_2_10 : decode cJ24_init_2 10 = .ok (.aload_n 1, 1) := dk_43 (dk_at dksJ24_init_2_0 10 rfl rfl)
theorem dJ24_init_2_11 : decode cJ24_init_2 11 = .ok (.putfield 17, 3) := dk_181 0 17 (dk_at dksJ24_init_2_0 11 rfl rfl)
theorem dJ24_init_2_14 : decode cJ24_init_2 14 = .ok (.aload_n 0, 1) := dk_42 (dk_at dksJ24_init_2_0 14 rfl rfl)
theorem dJ24_init_2_15 : decode cJ24_init_2 15 = .ok (.aload_n 1, 1) := dk_43 (dk_at dksJ24_init_2_0 15 rfl rfl)
theorem dJ24_init_2_16 : decode cJ24_init_2 16 = .ok (.arraylength, 1) := dk_190 (dk_at dksJ24_init_2_0 16 rfl rfl)
theorem dJ24_init_2_17 : decode cJ24_init_2 17 = .ok (.putfield 21, 3) := dk_181 0 21 (dk_at dksJ24_init_2_0 17 rfl rfl)
theorem dJ24_init_2_20 : decode cJ24_init_2 20 = .ok (.return_, 1) := dk_177 (dk_at dksJ24_init_2_0 20 rfl rfl)
/-! ### MutableBigIntegers -/
theorem lN_ne0 {a : Nat} (h0 : 0 < a) (h : a < 9223372036854775808) : ¬ lN a = 0 := by
  intro q
  have := congrArg Int64.toInt q
  rw [lN_lI, lI_toInt (by omega) (by omega)] at this
  have e : (0 : Int64).toInt = 0 := by decide
  omega
/-- digits laid and moved up -/
theorem wk_out {d g : Nat → Nat} {o s n i x : Nat} (h : i < o ∨ o + n ≤ i) (hn : 0 < n) : dup (wk d g o s (n - 1)) (o + n - 1) x i = g i := by
  rw [dup_n (by omega)]
  unfold wk
  rw [if_neg (by omega)]
/-- the first digit that differs decides -/
theorem cmp_dig {d e : Nat → Nat} (hd : ∀ i, d i < 4294967296) (he : ∀ i, e i < 4294967296) {o p n i : Nat} (hi : i < n) (hq : ∀ j, j < i → d (o + j) = e (p + j)) (h : d (o + i) < e (p + i)) : seg d o n < seg e p n := by
  obtain ⟨t, rfl⟩ : ∃ t, n = i + (t + 1) := ⟨n - i - 1, by omega⟩
  rw [seg_app d o i (t + 1), seg_app e p i (t + 1), seg_l d (o + i) t, seg_l e (p + i) t]
  have e1 : seg d o i = seg e p i := by
    unfold seg
    exact val_cg fun j hj => hq j hj
  have h1 := seg_lt hd (o + i + 1) t
  have h2 : (d (o + i) + 1) * 4294967296 ^ t ≤ e (p + i) * 4294967296 ^ t := Nat.mul_le_mul_right _ h
  rw [Nat.add_mul, Nat.one_mul] at h2
  rw [e1]
  omega
theorem seg_eq {d e : Nat → Nat} {o p n : Nat} (h : ∀ j, j < n → d (o + j) = e (p + j)) : seg d o n = seg e p n := by
  unfold seg
  exact val_cg fun j hj => h j hj
theorem seg_lead {d : Nat → Nat} (hd : ∀ i, d i < 4294967296) {o n : Nat} (hn : 0 < n) (h : d o ≠ 0) : 4294967296 ^ (n - 1) ≤ seg d o n ∧ seg d o n < 4294967296 ^ n := by
  refine ⟨?_, seg_lt hd o n⟩
  obtain ⟨t, rfl⟩ : ∃ t, n = t + 1 := ⟨n - 1, by omega⟩
  rw [seg_l, Nat.add_sub_cancel]
  have : 4294967296 ^ t ≤ d o * 4294967296 ^ t := Nat.le_mul_of_pos_left _ (by omega)
  omega
theorem len_lt {d e : Nat → Nat} (hd : ∀ i, d i < 4294967296) (he : ∀ i, e i < 4294967296) {o n p m : Nat} (hm : 0 < m) (h0 : e p ≠ 0) (h : n < m) : seg d o n < seg e p m := by
  have h1 := seg_lt hd o n
  have h2 := (seg_lead he hm h0).1
  have h3 : 4294967296 ^ n ≤ 4294967296 ^ (m - 1) := Nat.pow_le_pow_right (by decide) (by omega)
  omega
theorem seg_strip {d : Nat → Nat} {o n i : Nat} (hi : i ≤ n) (hz : ∀ j, j < i → d (o + j) = 0) : seg d (o + i) (n - i) = seg d o n := by
  obtain ⟨t, rfl⟩ : ∃ t, n = i + t := ⟨n - i, by omega⟩
  rw [seg_app d o i t, seg_zero (d := d) (o := o) (t := i) (fun j h1 h2 => by have := hz (j - o) (by omega); rwa [show o + (j - o) = j by omega] at this), Nat.zero_mul, Nat.zero_add, Nat.add_sub_cancel_left]

set_option maxHeartbeats 1000000 in
theorem m_divWord (l : Launch) (z : State) (H0 : Heap)  (N D : Nat) (hD : 2147483648 ≤ D) (hD9 : D < 4294967296) (hN : N < 18446744073709551616) (hND : N / D < 4294967296) : Met l yJ24_divWord (ws_ yJ24_divWord cJ24_divWord 9 (some .long)) { frames := 0, cells := 0, slots := 0, locals := 0 } (gPc z H0 [.long (lN N), .int (nI D)]) (gPl H0 (fun r => r = lN (N % D * 4294967296 + N / D))) 0 0 gno := by
  refine g_start (by decide +kernel) (Nat.le_of_ble_eq_true rfl) ?_
  intro p e s m below meth c ls hx hb hr hlocks hml hown hname hts hwm hl
  have hown : s.vm.findClass "java/math/MutableBigInteger" = some m.cls := hown
  have hal : z.vm.Alike s.vm := hwm.alike
  have hCF : CallFix p m c cJ24_divWord 9 s [.long (lN N), .int (nI D)].toArray lw_all "java/math/MutableBigInteger" := ⟨hx, hb, hml, hown, hts⟩
  have hl : lv_has ls 9 [(0, .long (lN N)), (2, .int (nI D))] := hl
  have hdw := dw_1 hD hD9 hN
  refine lv_iload_n hx hb dJ24_divWord_0 rfl (lv_at hl 1 rfl) ?_
  refine lv_i2l hx hb dJ24_divWord_1 rfl ?_
  refine lv_ldc2 (v := 4294967295) hx hb hown (hts _ q1035) dJ24_divWord_2 ?_
  refine lv_land hx hb dJ24_divWord_5 ?_
  refine g_topl (v := lN D) (mk32 (a := D) (rfl) (hD9)) ?_
  refine lv_lstore_n hx hb dJ24_divWord_6 rfl hl (by decide) rfl (fun ls hl => ?_)
  have hl : lv_has ls 9 [(3, .long (lN D)), (0, .long (lN N)), (2, .int (nI D))] := hl
  refine lv_lload_n hx hb dJ24_divWord_7 rfl (lv_at hl 0 rfl) ?_
  refine lv_lconst (v := 1) hx hb dJ24_divWord_8 (by decide) ?_
  refine W.lcmp hx hb dJ24_divWord_9 ?_
  refine lv_if_ne (tgt := 34) hx hb dJ24_divWord_10 (by decide) (fun c_10 => ?_) (fun c_10 => False.elim (by
    have c_10 := (ai_ceq (a := (D : Nat)) (b := 1) (lN_lI _) (by decide) (by omega) (by omega) (by omega) (by omega)).mp c_10
    omega))
  have c_10 := mt (ai_ceq (a := (D : Nat)) (b := 1) (lN_lI _) (by decide) (by omega) (by omega) (by omega) (by omega)).mpr c_10
  refine lv_lload_n hx hb dJ24_divWord_34 rfl (lv_at hl 1 rfl) ?_
  refine lv_iconst (v := 1) hx hb dJ24_divWord_35 (by decide) ?_
  refine lv_lushr hx hb dJ24_divWord_36 rfl ?_
  refine g_topl (v := (lN (N / 2))) (lN_shr1 hN) ?_
  refine lv_lload_n hx hb dJ24_divWord_37 rfl (lv_at hl 0 rfl) ?_
  refine lv_iconst (v := 1) hx hb dJ24_divWord_38 (by decide) ?_
  refine lv_lushr hx hb dJ24_divWord_39 rfl ?_
  refine g_topl (v := (lN (D / 2))) (lN_shr1 (by omega)) ?_
  refine lv_ldiv hx hb dJ24_divWord_40 (lN_ne0 (by omega) (by omega)) ?_
  refine g_topl (v := (lN (N / 2 / (D / 2)))) (lN_div (by omega) (by omega) (by omega)) ?_
  refine lv_lstore hx hb dJ24_divWord_41 hl (by decide) rfl (fun ls hl => ?_)
  have hl : lv_has ls 9 [(7, .long (lN (N / 2 / (D / 2)))), (3, .long (lN D)), (0, .long (lN N)), (2, .int (nI D))] := hl
  refine lv_lload_n hx hb dJ24_divWord_43 rfl (lv_at hl 2 rfl) ?_
  refine lv_lload hx hb dJ24_divWord_44 (lv_at hl 0 rfl) ?_
  refine lv_lload_n hx hb dJ24_divWord_46 rfl (lv_at hl 1 rfl) ?_
  refine lv_lmul hx hb dJ24_divWord_47 ?_
  refine g_topl (v := lN ((N / 2 / (D / 2)) * D)) (ai_mulL (a := (N / 2 / (D / 2))) (b := D) (rfl) (rfl)) ?_
  refine lv_lsub hx hb dJ24_divWord_48 ?_
  refine g_topl (v := lI ((N : Nat) - (((N / 2 / (D / 2)) * D) : Nat))) (ai_subLI (a := (N : Nat)) (b := (((N / 2 / (D / 2)) * D) : Nat)) (lN_lI _) (lN_lI _)) ?_
  refine lv_lstore hx hb dJ24_divWord_49 hl (by decide) rfl (fun ls hl => ?_)
  have hl : lv_has ls 9 [(5, .long (lI ((N : Nat) - (((N / 2 / (D / 2)) * D) : Nat)))), (7, .long (lN (N / 2 / (D / 2)))), (3, .long (lN D)), (0, .long (lN N)), (2, .int (nI D))] := hl
  replace hl : lv_has ls 9 [(5, .long (lI (((N : Nat) : Int) - ((N / 2 / (D / 2) * D : Nat) : Int)))), (7, .long (lN (N / 2 / (D / 2)))), (3, .long (lN D)), (0, .long (lN N)), (2, .int (nI D))] := by
    exact hl
  have loopA : ∀ (n_ : Nat) (q : Nat), (q * D ≤ N + 34359738368) → (N < q * D + 34359738368) → (q) < n_ → ∀ (ls : Array Slot), lv_has ls 9 [(5, .long (lI (((N : Nat) : Int) - ((q * D : Nat) : Int)))), (7, .long (lN q)), (3, .long (lN D)), (0, .long (lN N)), (2, .int (nI D))] → W p l e { frames := 0, cells := 0, slots := 0, locals := 0 } s m [.long (lN N), .int (nI D)].toArray below meth c H0 [] 0 0 (MQ below (gPl H0 (fun r => r = lN (N % D * 4294967296 + N / D))) [.long (lN N), .int (nI D)].toArray s 0 0 (gno)) (F0 m 51 ls []) := by
    intro n_
    induction n_ with
    | zero => intro q hq1 hq2 hm_; exact absurd hm_ (Nat.not_lt_zero _)
    | succ n_ ih_loopA =>
      intro q hq1 hq2 hm_ ls hl
      refine lv_lload hx hb dJ24_divWord_51 (lv_at hl 0 rfl) ?_
      refine lv_lconst (v := 0) hx hb dJ24_divWord_53 (by decide) ?_
      refine W.lcmp hx hb dJ24_divWord_54 ?_
      refine lv_if_ge (tgt := 73) hx hb dJ24_divWord_55 (by decide) (fun c_55 => ?_) (fun c_55 => ?_)
      · skip
        have c_55 := (ai_cge (a := (((N : Nat) : Int) - ((q * D : Nat) : Int))) (b := 0) (rfl) (by decide) (by omega) (by omega) (by omega) (by omega)).mp c_55
        have loopB : ∀ (n_ : Nat) (q : Nat), (q * D ≤ N) → (N < q * D + 34359738368) → (N - q * D) < n_ → ∀ (ls : Array Slot), lv_has ls 9 [(5, .long (lI (((N : Nat) : Int) - ((q * D : Nat) : Int)))), (7, .long (lN q)), (3, .long (lN D)), (0, .long (lN N)), (2, .int (nI D))] → W p l e { frames := 0, cells := 0, slots := 0, locals := 0 } s m [.long (lN N), .int (nI D)].toArray below meth c H0 [] 0 0 (MQ below (gPl H0 (fun r => r = lN (N % D * 4294967296 + N / D))) [.long (lN N), .int (nI D)].toArray s 0 0 (gno)) (F0 m 73 ls []) := by
          intro n_
          induction n_ with
          | zero => intro q hq1 hq2 hm_; exact absurd hm_ (Nat.not_lt_zero _)
          | succ n_ ih_loopB =>
            intro q hq1 hq2 hm_ ls hl
            refine lv_lload hx hb dJ24_divWord_73 (lv_at hl 0 rfl) ?_
            refine lv_lload_n hx hb dJ24_divWord_75 rfl (lv_at hl 2 rfl) ?_
            refine W.lcmp hx hb dJ24_divWord_76 ?_
            refine lv_if_lt (tgt := 95) hx hb dJ24_divWord_77 (by decide) (fun c_77 => ?_) (fun c_77 => ?_)
            · skip
              have c_77 := (ai_clt (a := (((N : Nat) : Int) - ((q * D : Nat) : Int))) (b := (D : Nat)) (rfl) (lN_lI _) (by omega) (by omega) (by omega) (by omega)).mp c_77
              have hr0 : N - q * D < D := by omega
              obtain ⟨hqe, hre⟩ := dw_end (N := N) (D := D) (q := q) (r := N - q * D) (by omega) (by omega) hr0
              replace hl : lv_has ls 9 [(5, .long (lN (N - q * D))), (7, .long (lN q)), (3, .long (lN D)), (0, .long (lN N)), (2, .int (nI D))] := by
                rw [lN_lI, show (((N - q * D : Nat)) : Int) = (((N : Nat) : Int) - ((q * D : Nat) : Int)) by omega]
                exact hl
              refine lv_lload hx hb dJ24_divWord_95 (lv_at hl 0 rfl) ?_
              refine lv_bipush (v := 32) hx hb dJ24_divWord_97 (by decide) ?_
              refine lv_lshl hx hb dJ24_divWord_99 rfl ?_
              refine g_topl (v := lN ((N - q * D) * 4294967296)) (lN_shl32 (a := (N - q * D))) ?_
              refine lv_lload hx hb dJ24_divWord_100 (lv_at hl 1 rfl) ?_
              refine lv_ldc2 (v := 4294967295) hx hb hown (hts _ q1035) dJ24_divWord_102 ?_
              refine lv_land hx hb dJ24_divWord_105 ?_
              refine g_topl (v := lN (q % 4294967296)) (lN_and _) ?_
              refine lv_lor hx hb dJ24_divWord_106 ?_
              refine g_topl (v := (lN ((N - q * D) * 4294967296 + q % 4294967296))) (lN_or (by omega) (by omega)) ?_
              refine g_lretP hx hb hr hlocks ?_ dJ24_divWord_107
              rw [hre, ← hqe, Nat.mod_eq_of_lt (show q < 4294967296 by rw [hqe]; exact hND)]
            · skip
              have c_77 := mt (ai_clt (a := (((N : Nat) : Int) - ((q * D : Nat) : Int))) (b := (D : Nat)) (rfl) (lN_lI _) (by omega) (by omega) (by omega) (by omega)).mpr c_77
              refine lv_lload hx hb dJ24_divWord_80 (lv_at hl 0 rfl) ?_
              refine lv_lload_n hx hb dJ24_divWord_82 rfl (lv_at hl 2 rfl) ?_
              refine lv_lsub hx hb dJ24_divWord_83 ?_
              refine g_topl (v := lI ((((N : Nat) : Int) - ((q * D : Nat) : Int)) - (D : Nat))) (ai_subLI (a := (((N : Nat) : Int) - ((q * D : Nat) : Int))) (b := (D : Nat)) (rfl) (lN_lI _)) ?_
              refine lv_lstore hx hb dJ24_divWord_84 hl (by decide) rfl (fun ls hl => ?_)
              have hl : lv_has ls 9 [(5, .long (lI ((((N : Nat) : Int) - ((q * D : Nat) : Int)) - (D : Nat)))), (7, .long (lN q)), (3, .long (lN D)), (0, .long (lN N)), (2, .int (nI D))] := hl
              refine lv_lload hx hb dJ24_divWord_86 (lv_at hl 1 rfl) ?_
              refine lv_lconst (v := 1) hx hb dJ24_divWord_88 (by decide) ?_
              refine lv_ladd hx hb dJ24_divWord_89 ?_
              refine g_topl (v := lN (q + 1)) (ai_addL (a := q) (b := 1) (rfl) (rfl)) ?_
              refine lv_lstore hx hb dJ24_divWord_90 hl (by decide) rfl (fun ls hl => ?_)
              have hl : lv_has ls 9 [(7, .long (lN (q + 1))), (5, .long (lI ((((N : Nat) : Int) - ((q * D : Nat) : Int)) - (D : Nat)))), (3, .long (lN D)), (0, .long (lN N)), (2, .int (nI D))] := hl
              refine lv_goto (tgt := 73) hx hb dJ24_divWord_92 (by decide) ?_
              replace hl : lv_has ls 9 [(7, .long (lN (q + 1))), (5, .long (lI (((N : Nat) : Int) - (((q + 1) * D : Nat) : Int)))), (3, .long (lN D)), (0, .long (lN N)), (2, .int (nI D))] := by
                rw [show (((N : Nat) : Int) - (((q + 1) * D : Nat) : Int)) = (((N : Nat) : Int) - ((q * D : Nat) : Int)) - (D : Nat) by rw [Nat.add_mul, Nat.one_mul]; omega]
                exact hl
              exact ih_loopB (q + 1) (by rw [Nat.add_mul, Nat.one_mul]; omega) (by rw [Nat.add_mul, Nat.one_mul]; omega) (by rw [Nat.add_mul, Nat.one_mul]; omega) ls (lv_sub hl [1, 0, 2, 3, 4] rfl)
        exact loopB _ q (by omega) (by omega) (Nat.lt_succ_self _) ls (lv_sub hl [0, 1, 2, 3, 4] rfl)
      · skip
        have c_55 := mt (ai_cge (a := (((N : Nat) : Int) - ((q * D : Nat) : Int))) (b := 0) (rfl) (by decide) (by omega) (by omega) (by omega) (by omega)).mpr c_55
        have hq1p : 1 ≤ q := by
          rcases Nat.eq_zero_or_pos q with e1 | e1
          · rw [e1, Nat.zero_mul] at c_55
            omega
          · exact e1
        have hqd : (q - 1) * D + D = q * D := by
          obtain ⟨u, rfl⟩ : ∃ u, q = u + 1 := ⟨q - 1, by omega⟩
          rw [Nat.add_sub_cancel, Nat.add_mul, Nat.one_mul]
        refine lv_lload hx hb dJ24_divWord_58 (lv_at hl 0 rfl) ?_
        refine lv_lload_n hx hb dJ24_divWord_60 rfl (lv_at hl 2 rfl) ?_
        refine lv_ladd hx hb dJ24_divWord_61 ?_
        refine g_topl (v := lI ((((N : Nat) : Int) - ((q * D : Nat) : Int)) + (D : Nat))) (ai_addLI (a := (((N : Nat) : Int) - ((q * D : Nat) : Int))) (b := (D : Nat)) (rfl) (lN_lI _)) ?_
        refine lv_lstore hx hb dJ24_divWord_62 hl (by decide) rfl (fun ls hl => ?_)
        have hl : lv_has ls 9 [(5, .long (lI ((((N : Nat) : Int) - ((q * D : Nat) : Int)) + (D : Nat)))), (7, .long (lN q)), (3, .long (lN D)), (0, .long (lN N)), (2, .int (nI D))] := hl
        refine lv_lload hx hb dJ24_divWord_64 (lv_at hl 1 rfl) ?_
        refine lv_lconst (v := 1) hx hb dJ24_divWord_66 (by decide) ?_
        refine lv_lsub hx hb dJ24_divWord_67 ?_
        refine g_topl (v := lN (q - 1)) (ai_subL (a := q) (b := 1) (rfl) (rfl) (by omega)) ?_
        refine lv_lstore hx hb dJ24_divWord_68 hl (by decide) rfl (fun ls hl => ?_)
        have hl : lv_has ls 9 [(7, .long (lN (q - 1))), (5, .long (lI ((((N : Nat) : Int) - ((q * D : Nat) : Int)) + (D : Nat)))), (3, .long (lN D)), (0, .long (lN N)), (2, .int (nI D))] := hl
        refine lv_goto (tgt := 51) hx hb dJ24_divWord_70 (by decide) ?_
        replace hl : lv_has ls 9 [(7, .long (lN (q - 1))), (5, .long (lI (((N : Nat) : Int) - (((q - 1) * D : Nat) : Int)))), (3, .long (lN D)), (0, .long (lN N)), (2, .int (nI D))] := by
          rw [show (((N : Nat) : Int) - (((q - 1) * D : Nat) : Int)) = (((N : Nat) : Int) - ((q * D : Nat) : Int)) + (D : Nat) by omega]
          exact hl
        exact ih_loopA (q - 1) (by omega) (by omega) (by omega) ls (lv_sub hl [1, 0, 2, 3, 4] rfl)
  exact loopA _ (N / 2 / (D / 2)) hdw.1 hdw.2.1 (Nat.lt_succ_self _) ls (lv_sub hl [0, 1, 2, 3, 4] rfl)
set_option maxHeartbeats 1000000 in
theorem m_copyShift (l : Launch) (z : State) (H0 : Heap) (a : Nat) (b : Nat) (sf n df s0 ns nd0 : Nat) (w : Bool) (d g : Nat → Nat) (hn0 : 0 < n) (hs0 : 0 < s0) (hs : s0 < 32) (hab : a ≠ b) (hns : ns < 1000000) (hnd : nd0 < 1000000) (h1 : sf + n ≤ ns) (h2 : df + n ≤ nd0) (hd : ∀ i, d i < 4294967296) (hg : ∀ i, g i < 4294967296) (hA : gI z w .int H0 a ns (dI d)) (hB : gI z true .int H0 b nd0 (dI g)) : Met l yJ24_copyAndShift (ws_ yJ24_copyAndShift cJ24_copyAndShift 10 (none)) { frames := 0, cells := 0, slots := 0, locals := 0 } (gPc z H0 [.ref a, .int (nI sf), .int (nI n), .ref b, .int (nI df), .int (nI s0)]) (gRv (fun q => q = b) H0 (fun H1 => ∃ gg, (∀ i, gg i < 4294967296) ∧ (∀ i, (i < df ∨ df + n ≤ i) → gg i = g i) ∧ seg gg df n = seg (shl (fun j => d (sf + j)) s0 n) 0 n ∧ gI z true .int H1 b nd0 (dI gg))) 0 0 (fun q => q = b) := by
  refine g_start (by decide +kernel) (Nat.le_of_ble_eq_true rfl) ?_
  intro p e s m below meth c ls hx hb hr hlocks hml hown hname hts hwm hl
  have hown : s.vm.findClass "java/math/MutableBigInteger" = some m.cls := hown
  have hal : z.vm.Alike s.vm := hwm.alike
  have hCF : CallFix p m c cJ24_copyAndShift 10 s [.ref a, .int (nI sf), .int (nI n), .ref b, .int (nI df), .int (nI s0)].toArray lw_all "java/math/MutableBigInteger" := ⟨hx, hb, hml, hown, hts⟩
  have hl : lv_has ls 10 [(0, .ref a), (1, .int (nI sf)), (2, .int (nI n)), (3, .ref b), (4, .int (nI df)), (5, .int (nI s0))] := hl
  have hS : va_S (fun q => q = b) H0 H0 [] := va_S.rf
  have hdd : ∀ j, (fun j => d (sf + j)) j < 4294967296 := fun j => hd (sf + j)
  have lt_a := hA.lt
  have lt_b := hB.lt
  refine lv_bipush (v := 32) hx hb dJ24_copyAndShift_0 (by decide) ?_
  refine lv_iload hx hb dJ24_copyAndShift_2 (lv_at hl 5 rfl) ?_
  refine lv_isub hx hb dJ24_copyAndShift_4 ?_
  refine g_topi (v := nI (32 - s0)) (ai_sub (a := 32) (b := s0) (rfl) (rfl) (by omega)) ?_
  refine lv_istore hx hb dJ24_copyAndShift_5 hl (by decide) rfl (fun ls hl => ?_)
  have hl : lv_has ls 10 [(6, .int (nI (32 - s0))), (0, .ref a), (1, .int (nI sf)), (2, .int (nI n)), (3, .ref b), (4, .int (nI df)), (5, .int (nI s0))] := hl
  refine lv_aload_n hx hb dJ24_copyAndShift_7 rfl (lv_at hl 1 rfl) ?_
  refine lv_iload_n hx hb dJ24_copyAndShift_8 rfl (lv_at hl 2 rfl) ?_
  refine gw_iald hx hb hal hA sf (rfl) (by omega) (by omega) dJ24_copyAndShift_9 ?_
  refine g_topi (v := (nI (d sf))) rfl ?_
  refine lv_istore hx hb dJ24_copyAndShift_10 hl (by decide) rfl (fun ls hl => ?_)
  have hl : lv_has ls 10 [(7, .int (nI (d sf))), (6, .int (nI (32 - s0))), (0, .ref a), (1, .int (nI sf)), (2, .int (nI n)), (3, .ref b), (4, .int (nI df)), (5, .int (nI s0))] := hl
  refine lv_iconst (v := 0) hx hb dJ24_copyAndShift_12 (by decide) ?_
  refine lv_istore hx hb dJ24_copyAndShift_13 hl (by decide) rfl (fun ls hl => ?_)
  have hl : lv_has ls 10 [(8, .int 0), (7, .int (nI (d sf))), (6, .int (nI (32 - s0))), (0, .ref a), (1, .int (nI sf)), (2, .int (nI n)), (3, .ref b), (4, .int (nI df)), (5, .int (nI s0))] := hl
  have e_fit : g = (wk (fun j => d (sf + j)) g df s0 0) := by
    exact (wk_0 _ g df s0).symm
  replace hB : gI z true .int H0 b nd0 (dI (wk (fun j => d (sf + j)) g df s0 0)) := by
    rw [← e_fit]
    exact hB
  clear e_fit
  replace hl : lv_has ls 10 [(8, .int (nI 0)), (7, .int (nI (d (sf + 0)))), (6, .int (nI (32 - s0))), (0, .ref a), (1, .int (nI (sf + 0))), (2, .int (nI n)), (3, .ref b), (4, .int (nI df)), (5, .int (nI s0))] := by
    exact hl
  have loopA : ∀ (n_ : Nat) (i : Nat), (i ≤ n - 1) → (n - i) < n_ → ∀ (H_1 : Heap) (locs : List Loc), va_S (fun q => q = b) H0 H_1 locs → gI z w .int H_1 a ns (dI d) → gI z true .int H_1 b nd0 (dI (wk (fun j => d (sf + j)) g df s0 i)) → ∀ (ls : Array Slot), lv_has ls 10 [(8, .int (nI i)), (7, .int (nI (d (sf + i)))), (6, .int (nI (32 - s0))), (0, .ref a), (1, .int (nI (sf + i))), (2, .int (nI n)), (3, .ref b), (4, .int (nI df)), (5, .int (nI s0))] → W p l e { frames := 0, cells := 0, slots := 0, locals := 0 } s m [.ref a, .int (nI sf), .int (nI n), .ref b, .int (nI df), .int (nI s0)].toArray below meth c H_1 locs 0 0 (MQ below (gRv (fun q => q = b) H0 (fun H1 => ∃ gg, (∀ i, gg i < 4294967296) ∧ (∀ i, (i < df ∨ df + n ≤ i) → gg i = g i) ∧ seg gg df n = seg (shl (fun j => d (sf + j)) s0 n) 0 n ∧ gI z true .int H1 b nd0 (dI gg))) [.ref a, .int (nI sf), .int (nI n), .ref b, .int (nI df), .int (nI s0)].toArray s 0 0 (fun q => q = b)) (F0 m 15 ls []) := by
    intro n_
    induction n_ with
    | zero => intro i hi hm_; exact absurd hm_ (Nat.not_lt_zero _)
    | succ n_ ih_loopA =>
      intro i hi hm_ H_1 locs hS hA hB ls hl
      refine lv_iload hx hb dJ24_copyAndShift_15 (lv_at hl 0 rfl) ?_
      refine lv_iload_n hx hb dJ24_copyAndShift_17 rfl (lv_at hl 5 rfl) ?_
      refine lv_iconst (v := 1) hx hb dJ24_copyAndShift_18 (by decide) ?_
      refine lv_isub hx hb dJ24_copyAndShift_19 ?_
      refine g_topi (v := nI (n - 1)) (ai_sub (a := n) (b := 1) (rfl) (rfl) (by omega)) ?_
      refine lv_icmp_ge (tgt := 59) hx hb dJ24_copyAndShift_20 (by decide) (fun c_20 => ?_) (fun c_20 => ?_)
      · skip
        have c_20 := (ai_le (a := (n - 1)) (b := i) (rfl) (rfl) (by omega) (by omega)).mp c_20
        refine lv_aload_n hx hb dJ24_copyAndShift_59 rfl (lv_at hl 6 rfl) ?_
        refine lv_iload hx hb dJ24_copyAndShift_60 (lv_at hl 7 rfl) ?_
        refine lv_iload_n hx hb dJ24_copyAndShift_62 rfl (lv_at hl 5 rfl) ?_
        refine lv_iadd hx hb dJ24_copyAndShift_63 ?_
        refine g_topi (v := nI (df + n)) (ai_add (a := df) (b := n) (rfl) (rfl)) ?_
        refine lv_iconst (v := 1) hx hb dJ24_copyAndShift_64 (by decide) ?_
        refine lv_isub hx hb dJ24_copyAndShift_65 ?_
        refine g_topi (v := nI ((df + n) - 1)) (ai_sub (a := (df + n)) (b := 1) (rfl) (rfl) (by omega)) ?_
        refine lv_iload hx hb dJ24_copyAndShift_66 (lv_at hl 1 rfl) ?_
        refine lv_iload hx hb dJ24_copyAndShift_68 (lv_at hl 8 rfl) ?_
        refine lv_ishl hx hb dJ24_copyAndShift_70 ?_
        refine g_topi (v := nI ((d (sf + i)) * 2 ^ s0)) (ai_shlv (a := (d (sf + i))) (k := s0) (rfl) (rfl) (by omega)) ?_
        refine gw_iast (f := (dI (wk (fun j => d (sf + j)) g df s0 i))) hx hb hal hB hS (by have hsz := hS.1; (try dsimp only [gfr]) <;> omega) ((df + n) - 1) (rfl) (by omega) (by omega) dJ24_copyAndShift_71 (fun H_2 locs h_new hch hS => ?_)
        have hA := hA.ch hch (by omega)
        have sz_H_2 := hch.1
        clear hch
        have hB : gI z true .int H_2 b nd0 (upd (dI (wk (fun j => d (sf + j)) g df s0 i)) ((df + n) - 1) (nI ((d (sf + i)) * 2 ^ s0))) := h_new
        replace hB : gI z true .int H_2 b nd0 (dI (dup (wk (fun j => d (sf + j)) g df s0 i) ((df + n) - 1) (((d (sf + i)) * 2 ^ s0) % 4294967296))) := by
          have q := hB
          rw [dI_put] at q
          exact q
        have bd_3 : ∀ ix, (dup (wk (fun j => d (sf + j)) g df s0 i) ((df + n) - 1) (((d (sf + i)) * 2 ^ s0) % 4294967296)) ix < 4294967296 := dup_lt (wk_lt hdd hg hs hs0) (Nat.mod_lt _ (by decide))
        refine g_vret hx hb hr hlocks hS (Nat.le_of_ble_eq_true rfl) (Nat.le_of_ble_eq_true rfl) ?_ dJ24_copyAndShift_72
        have e0 : i = n - 1 := by omega
        subst e0
        refine ⟨_, bd_3, fun j hj => wk_out hj hn0, wk_seg hn0, hB⟩
      · skip
        have c_20 := mt (ai_le (a := (n - 1)) (b := i) (rfl) (rfl) (by omega) (by omega)).mpr c_20
        refine lv_iload hx hb dJ24_copyAndShift_23 (lv_at hl 1 rfl) ?_
        refine lv_istore hx hb dJ24_copyAndShift_25 hl (by decide) rfl (fun ls hl => ?_)
        have hl : lv_has ls 10 [(9, .int (nI (d (sf + i)))), (8, .int (nI i)), (7, .int (nI (d (sf + i)))), (6, .int (nI (32 - s0))), (0, .ref a), (1, .int (nI (sf + i))), (2, .int (nI n)), (3, .ref b), (4, .int (nI df)), (5, .int (nI s0))] := hl
        refine lv_aload_n hx hb dJ24_copyAndShift_27 rfl (lv_at hl 4 rfl) ?_
        refine lv_iinc (k := 5) (v := (nI (sf + i + 1))) hx hb dJ24_copyAndShift_28 hl rfl (ai_add (a := (sf + i)) (b := 1) (rfl) (show Int32.ofInt 1 = nI 1 by decide)) (by decide) rfl (fun ls hl => ?_)
        have hl : lv_has ls 10 [(1, .int (nI (sf + i + 1))), (9, .int (nI (d (sf + i)))), (8, .int (nI i)), (7, .int (nI (d (sf + i)))), (6, .int (nI (32 - s0))), (0, .ref a), (2, .int (nI n)), (3, .ref b), (4, .int (nI df)), (5, .int (nI s0))] := hl
        refine lv_iload_n hx hb dJ24_copyAndShift_31 rfl (lv_at hl 0 rfl) ?_
        refine gw_iald hx hb hal hA (sf + i + 1) (rfl) (by omega) (by omega) dJ24_copyAndShift_32 ?_
        refine g_topi (v := (nI (d (sf + i + 1)))) rfl ?_
        refine lv_istore hx hb dJ24_copyAndShift_33 hl (by decide) rfl (fun ls hl => ?_)
        have hl : lv_has ls 10 [(7, .int (nI (d (sf + i + 1)))), (1, .int (nI (sf + i + 1))), (9, .int (nI (d (sf + i)))), (8, .int (nI i)), (6, .int (nI (32 - s0))), (0, .ref a), (2, .int (nI n)), (3, .ref b), (4, .int (nI df)), (5, .int (nI s0))] := hl
        refine lv_aload_n hx hb dJ24_copyAndShift_35 rfl (lv_at hl 7 rfl) ?_
        refine lv_iload hx hb dJ24_copyAndShift_36 (lv_at hl 8 rfl) ?_
        refine lv_iload hx hb dJ24_copyAndShift_38 (lv_at hl 3 rfl) ?_
        have hq1 := hd (sf + (i + 1))
        refine lv_iadd hx hb dJ24_copyAndShift_40 ?_
        refine g_topi (v := nI (df + i)) (ai_add (a := df) (b := i) (rfl) (rfl)) ?_
        refine lv_iload hx hb dJ24_copyAndShift_41 (lv_at hl 2 rfl) ?_
        refine lv_iload hx hb dJ24_copyAndShift_43 (lv_at hl 9 rfl) ?_
        refine lv_ishl hx hb dJ24_copyAndShift_45 ?_
        refine g_topi (v := nI ((d (sf + i)) * 2 ^ s0)) (ai_shlv (a := (d (sf + i))) (k := s0) (rfl) (rfl) (by omega)) ?_
        refine lv_iload hx hb dJ24_copyAndShift_46 (lv_at hl 0 rfl) ?_
        refine lv_iload hx hb dJ24_copyAndShift_48 (lv_at hl 4 rfl) ?_
        refine lv_iushr hx hb dJ24_copyAndShift_50 rfl ?_
        refine g_topi (v := nI ((d (sf + i + 1)) / 2 ^ (32 - s0))) (ai_ushr (a := (d (sf + i + 1))) (k := (32 - s0)) (rfl) (rfl) (hd _) (by omega)) ?_
        refine lv_ior hx hb dJ24_copyAndShift_51 ?_
        refine g_topi (v := (nI ((d (sf + i) * 2 ^ s0) % 4294967296 + d (sf + (i + 1)) / 2 ^ (32 - s0)))) ((sh_dig hs hs0 (hd (sf + (i + 1)))).1) ?_
        refine gw_iast (f := (dI (wk (fun j => d (sf + j)) g df s0 i))) hx hb hal hB hS (by have hsz := hS.1; (try dsimp only [gfr]) <;> omega) (df + i) (rfl) (by omega) (by omega) dJ24_copyAndShift_52 (fun H_4 locs h_new hch hS => ?_)
        have hA := hA.ch hch (by omega)
        have sz_H_4 := hch.1
        clear hch
        have hB : gI z true .int H_4 b nd0 (upd (dI (wk (fun j => d (sf + j)) g df s0 i)) (df + i) (nI ((d (sf + i) * 2 ^ s0) % 4294967296 + d (sf + (i + 1)) / 2 ^ (32 - s0)))) := h_new
        replace hB : gI z true .int H_4 b nd0 (dI (dup (wk (fun j => d (sf + j)) g df s0 i) (df + i) (((d (sf + i) * 2 ^ s0) % 4294967296 + d (sf + (i + 1)) / 2 ^ (32 - s0)) % 4294967296))) := by
          have q := hB
          rw [dI_put] at q
          exact q
        have bd_5 : ∀ ix, (dup (wk (fun j => d (sf + j)) g df s0 i) (df + i) (((d (sf + i) * 2 ^ s0) % 4294967296 + d (sf + (i + 1)) / 2 ^ (32 - s0)) % 4294967296)) ix < 4294967296 := dup_lt (wk_lt hdd hg hs hs0) (Nat.mod_lt _ (by decide))
        refine lv_iinc (k := 3) (v := (nI (i + 1))) hx hb dJ24_copyAndShift_53 hl rfl (ai_add (a := i) (b := 1) (rfl) (show Int32.ofInt 1 = nI 1 by decide)) (by decide) rfl (fun ls hl => ?_)
        have hl : lv_has ls 10 [(8, .int (nI (i + 1))), (7, .int (nI (d (sf + i + 1)))), (1, .int (nI (sf + i + 1))), (9, .int (nI (d (sf + i)))), (6, .int (nI (32 - s0))), (0, .ref a), (2, .int (nI n)), (3, .ref b), (4, .int (nI df)), (5, .int (nI s0))] := hl
        refine lv_goto (tgt := 15) hx hb dJ24_copyAndShift_56 (by decide) ?_
        have e_fit : (dup (wk (fun j => d (sf + j)) g df s0 i) (df + i) (((d (sf + i) * 2 ^ s0) % 4294967296 + d (sf + (i + 1)) / 2 ^ (32 - s0)) % 4294967296)) = (wk (fun j => d (sf + j)) g df s0 (i + 1)) := by
          exact wk_s hdd hs hs0
        replace hB : gI z true .int H_4 b nd0 (dI (wk (fun j => d (sf + j)) g df s0 (i + 1))) := by
          rw [← e_fit]
          exact hB
        clear e_fit
        replace hl : lv_has ls 10 [(8, .int (nI (i + 1))), (7, .int (nI (d (sf + (i + 1))))), (1, .int (nI (sf + (i + 1)))), (9, .int (nI (d (sf + i)))), (6, .int (nI (32 - s0))), (0, .ref a), (2, .int (nI n)), (3, .ref b), (4, .int (nI df)), (5, .int (nI s0))] := by
          exact hl
        exact ih_loopA (i + 1) (by omega) (by omega) H_4 _ hS hA hB ls (lv_sub hl [0, 1, 4, 5, 2, 6, 7, 8, 9] rfl)
  exact loopA _ 0 (Nat.zero_le _) (Nat.lt_succ_self _) H0 _ hS hA hB ls (lv_sub hl [0, 1, 2, 3, 4, 5, 6, 7, 8] rfl)
set_option maxHeartbeats 1000000 in
theorem m_mInit (l : Launch) (z : State) (H0 : Heap) (a : Nat)  (hO : gO z true RJ24 TJ24 3 H0 a [.null, .int 0, .int 0]) : Met l yJ24_init (ws_ yJ24_init cJ24_init 1 (none)) { frames := 1, cells := 1, slots := 1, locals := 12 } (gPc z H0 [.ref a]) (gRv (fun q => q = a ∨ H0.size ≤ q) H0 (fun H1 => ∃ b, H0.size ≤ b ∧ gO z true RJ24 TJ24 3 H1 a [.ref b, .int 0, .int 0] ∧ gI z true .int H1 b 1 (dI (fun _ => 0)))) 1 1 (fun q => q = a ∨ H0.size ≤ q) := by
  refine g_start (by decide +kernel) (Nat.le_of_ble_eq_true rfl) ?_
  intro p e s m below meth c ls hx hb hr hlocks hml hown hname hts hwm hl
  have hown : s.vm.findClass "java/math/MutableBigInteger" = some m.cls := hown
  have hal : z.vm.Alike s.vm := hwm.alike
  have hCF : CallFix p m c cJ24_init 1 s [.ref a].toArray lw_all "java/math/MutableBigInteger" := ⟨hx, hb, hml, hown, hts⟩
  have hl : lv_has ls 1 [(0, .ref a)] := hl
  have hS : va_S (fun q => q = a ∨ H0.size ≤ q) H0 H0 [] := va_S.rf
  have lt_a := hO.lt
  refine lv_aload_n hx hb dJ24_init_0 rfl (lv_at hl 0 rfl) ?_
  refine W.objInit hx hb hown (hts _ q978) (hts _ q110) (hts _ q111) rfl (by rw [hml]; exact hl.1) rfl dJ24_init_1 (Nat.le_of_ble_eq_true rfl) (Nat.le_of_ble_eq_true rfl) ?_
  refine W.eq (g2 := F0 m 4 ls []) rfl ?_
  refine lv_aload_n hx hb dJ24_init_4 rfl (lv_at hl 0 rfl) ?_
  refine lv_iconst (v := 0) hx hb dJ24_init_5 (by decide) ?_
  refine gw_put (C := RJ24) (T := TJ24) (N := 3) (ty := .int) (v := .int 0) hx hb hts in_J24 tyJ24 tyJ24_ok nmJ24 (hts _ q974) hown hal hO hS (by have hsz := hS.1; (try dsimp only [gfr]) <;> omega) 2 (by decide) (hts _ q981) (fun _ h9 => h9) rfl (by decide +kernel) (rfl) (rfl) (Nat.le_of_ble_eq_true rfl) dJ24_init_6 (fun H_1 locs h_new hch hS => ?_)
  have sz_H_1 := hch.1
  clear hch
  have hO : gO z true RJ24 TJ24 3 H_1 a [.null, .int 0, .int 0] := h_new
  refine lv_aload_n hx hb dJ24_init_9 rfl (lv_at hl 0 rfl) ?_
  refine lv_iconst (v := 1) hx hb dJ24_init_10 (by decide) ?_
  have hsz := hS.1
  have lt_a := hO.lt
  refine gw_newa (atype := .int) (ty := .int) (N' := 1) hx hb (hts _ q990) rfl hal hS (rfl) (by omega) (by decide) (by first | omega | (dsimp only; omega)) (by first | omega | (dsimp only; omega)) dJ24_init_11 (fun qa H_2 eqa zqa hgx h_qa hS => ?_)
  have hO := hO.x hgx
  have h_qa : gI z true .int H_2 qa 1 (fun _ => 0) := h_qa
  have h_qa : gI z true .int H_2 qa 1 (dI (fun _ => 0)) := h_qa
  refine gw_put (C := RJ24) (T := TJ24) (N := 3) (ty := (.array .int)) (v := .ref qa) hx hb hts in_J24 tyJ24 tyJ24_ok nmJ24 (hts _ q974) hown hal hO hS (by have hsz := hS.1; (try dsimp only [gfr]) <;> omega) 0 (by decide) (hts _ q979) (fun _ h9 => h9) rfl (by decide +kernel) (rfl) (rfl) (Nat.le_of_ble_eq_true rfl) dJ24_init_13 (fun H_3 locs h_new hch hS => ?_)
  have h_qa := h_qa.ch hch (by omega)
  have sz_H_3 := hch.1
  clear hch
  have hO : gO z true RJ24 TJ24 3 H_3 a [.ref qa, .int 0, .int 0] := h_new
  refine lv_aload_n hx hb dJ24_init_16 rfl (lv_at hl 0 rfl) ?_
  refine lv_iconst (v := 0) hx hb dJ24_init_17 (by decide) ?_
  refine gw_put (C := RJ24) (T := TJ24) (N := 3) (ty := .int) (v := .int 0) hx hb hts in_J24 tyJ24 tyJ24_ok nmJ24 (hts _ q974) hown hal hO hS (by have hsz := hS.1; (try dsimp only [gfr]) <;> omega) 1 (by decide) (hts _ q980) (fun _ h9 => h9) rfl (by decide +kernel) (rfl) (rfl) (Nat.le_of_ble_eq_true rfl) dJ24_init_18 (fun H_4 locs h_new hch hS => ?_)
  have h_qa := h_qa.ch hch (by omega)
  have sz_H_4 := hch.1
  clear hch
  have hO : gO z true RJ24 TJ24 3 H_4 a [.ref qa, .int 0, .int 0] := h_new
  refine g_vret hx hb hr hlocks hS (by first | omega | (dsimp only; omega)) (by first | omega | (dsimp only; omega)) ?_ dJ24_init_21
  exact ⟨qa, by omega, hO, h_qa⟩
set_option maxHeartbeats 1000000 in
theorem m_mInitA (l : Launch) (z : State) (H0 : Heap) (a : Nat) (b : Nat) (n : Nat) (d : Nat → Nat) (w : Bool) (hO : gO z true RJ24 TJ24 3 H0 a [.null, .int 0, .int 0]) (hM : gI z w .int H0 b n (dI d)) : Met l yJ24_init_2 (ws_ yJ24_init_2 cJ24_init_2 2 (none)) { frames := 1, cells := 0, slots := 0, locals := 12 } (gPc z H0 [.ref a, .ref b]) (gRv (fun q => q = a) H0 (fun H1 => gO z true RJ24 TJ24 3 H1 a [.ref b, .int (nI n), .int 0])) 0 0 (fun q => q = a) := by
  refine g_start (by decide +kernel) (Nat.le_of_ble_eq_true rfl) ?_
  intro p e s m below meth c ls hx hb hr hlocks hml hown hname hts hwm hl
  have hown : s.vm.findClass "java/math/MutableBigInteger" = some m.cls := hown
  have hal : z.vm.Alike s.vm := hwm.alike
  have hCF : CallFix p m c cJ24_init_2 2 s [.ref a, .ref b].toArray lw_all "java/math/MutableBigInteger" := ⟨hx, hb, hml, hown, hts⟩
  have hl : lv_has ls 2 [(0, .ref a), (1, .ref b)] := hl
  have hS : va_S (fun q => q = a) H0 H0 [] := va_S.rf
  have hba : b ≠ a := Ne.symm (gA.neO2 hal hM hO (hts _ q974))
  have lt_a := hO.lt
  have lt_b := hM.lt
  refine lv_aload_n hx hb dJ24_init_2_0 rfl (lv_at hl 0 rfl) ?_
  refine W.objInit hx hb hown (hts _ q978) (hts _ q110) (hts _ q111) rfl (by rw [hml]; exact hl.1) rfl dJ24_init_2_1 (Nat.le_of_ble_eq_true rfl) (Nat.le_of_ble_eq_true rfl) ?_
  refine W.eq (g2 := F0 m 4 ls []) rfl ?_
  refine lv_aload_n hx hb dJ24_init_2_4 rfl (lv_at hl 0 rfl) ?_
  refine lv_iconst (v := 0) hx hb dJ24_init_2_5 (by decide) ?_
  refine gw_put (C := RJ24) (T := TJ24) (N := 3) (ty := .int) (v := .int 0) hx hb hts in_J24 tyJ24 tyJ24_ok nmJ24 (hts _ q974) hown hal hO hS (by have hsz := hS.1; (try dsimp only [gfr]) <;> omega) 2 (by decide) (hts _ q981) (fun _ h9 => h9) rfl (by decide +kernel) (rfl) (rfl) (Nat.le_of_ble_eq_true rfl) dJ24_init_2_6 (fun H_1 locs h_new hch hS => ?_)
  have hM := hM.ch hch (by omega)
  have sz_H_1 := hch.1
  clear hch
  have hO : gO z true RJ24 TJ24 3 H_1 a [.null, .int 0, .int 0] := h_new
  refine lv_aload_n hx hb dJ24_init_2_9 rfl (lv_at hl 0 rfl) ?_
  refine lv_aload_n hx hb dJ24_init_2_10 rfl (lv_at hl 1 rfl) ?_
  refine gw_put (C := RJ24) (T := TJ24) (N := 3) (ty := (.array .int)) (v := .ref b) hx hb hts in_J24 tyJ24 tyJ24_ok nmJ24 (hts _ q974) hown hal hO hS (by have hsz := hS.1; (try dsimp only [gfr]) <;> omega) 0 (by decide) (hts _ q979) (fun _ h9 => h9) rfl (by decide +kernel) (rfl) (rfl) (Nat.le_of_ble_eq_true rfl) dJ24_init_2_11 (fun H_2 locs h_new hch hS => ?_)
  have hM := hM.ch hch (by omega)
  have sz_H_2 := hch.1
  clear hch
  have hO : gO z true RJ24 TJ24 3 H_2 a [.ref b, .int 0, .int 0] := h_new
  refine lv_aload_n hx hb dJ24_init_2_14 rfl (lv_at hl 0 rfl) ?_
  refine lv_aload_n hx hb dJ24_init_2_15 rfl (lv_at hl 1 rfl) ?_
  refine gw_len hx hb hal hM dJ24_init_2_16 ?_
  refine gw_put (C := RJ24) (T := TJ24) (N := 3) (ty := .int) (v := .int (nI n)) hx hb hts in_J24 tyJ24 tyJ24_ok nmJ24 (hts _ q974) hown hal hO hS (by have hsz := hS.1; (try dsimp only [gfr]) <;> omega) 1 (by decide) (hts _ q980) (fun _ h9 => h9) rfl (by decide +kernel) (rfl) (rfl) (Nat.le_of_ble_eq_true rfl) dJ24_init_2_17 (fun H_3 locs h_new hch hS => ?_)
  have hM := hM.ch hch (by omega)
  have sz_H_3 := hch.1
  clear hch
  have hO : gO z true RJ24 TJ24 3 H_3 a [.ref b, .int (nI n), .int 0] := h_new
  refine g_vret hx hb hr hlocks hS (Nat.le_of_ble_eq_true rfl) (Nat.le_of_ble_eq_true rfl) ?_ dJ24_init_2_20
  exact hO
