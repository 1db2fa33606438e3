/-! ## walks (written by tools) -/
set_option maxRecDepth 100000
def dkwJ17_getChars_5 : List UInt8 := [16, 45, 84, 21, 5, 172]
abbrev dktJ17_getChars_5 : List UInt8 := dkwJ17_getChars_5 ++ []
def dkwJ17_getChars_4 : List UInt8 := [132, 5, 255, 21, 5, 178, 0, 87, 26, 116, 51, 84, 21, 6, 153, 0, 12, 44, 132, 5, 255, 21, 5]
abbrev dktJ17_getChars_4 : List UInt8 := dkwJ17_getChars_4 ++ dktJ17_getChars_5
def dkwJ17_getChars_3 : List UInt8 := [167, 255, 209, 44, 132, 5, 255, 21, 5, 178, 0, 83, 26, 116, 51, 84, 26, 16, 247, 162, 0, 16, 44]
abbrev dktJ17_getChars_3 : List UInt8 := dkwJ17_getChars_3 ++ dktJ17_getChars_4
def dkwJ17_getChars_2 : List UInt8 := [21, 5, 178, 0, 83, 21, 4, 51, 84, 44, 132, 5, 255, 21, 5, 178, 0, 87, 21, 4, 51, 84]
abbrev dktJ17_getChars_2 : List UInt8 := dkwJ17_getChars_2 ++ dktJ17_getChars_3
def dkwJ17_getChars_1 : List UInt8 := [16, 156, 163, 0, 47, 26, 16, 100, 108, 62, 29, 16, 100, 104, 26, 100, 54, 4, 29, 59, 44, 132, 5, 255]
abbrev dktJ17_getChars_1 : List UInt8 := dkwJ17_getChars_1 ++ dktJ17_getChars_2
def dkwJ17_getChars_0 : List UInt8 := [27, 54, 5, 26, 156, 0, 7, 4, 167, 0, 4, 3, 54, 6, 21, 6, 154, 0, 6, 26, 116, 59, 26]
abbrev dktJ17_getChars_0 : List UInt8 := dkwJ17_getChars_0 ++ dktJ17_getChars_1
theorem dksJ17_getChars_0 : cJ17_getChars.data.toList.drop 0 = dktJ17_getChars_0 := by decide +kernel
theorem dksJ17_getChars_1 : cJ17_getChars.data.toList.drop 23 = dktJ17_getChars_1 := dk_seg dksJ17_getChars_0 23 rfl rfl
theorem dksJ17_getChars_2 : cJ17_getChars.data.toList.drop 47 = dktJ17_getChars_2 := dk_seg dksJ17_getChars_1 24 rfl rfl
theorem dksJ17_getChars_3 : cJ17_getChars.data.toList.drop 69 = dktJ17_getChars_3 := dk_seg dksJ17_getChars_2 22 rfl rfl
theorem dksJ17_getChars_4 : cJ17_getChars.data.toList.drop 92 = dktJ17_getChars_4 := dk_seg dksJ17_getChars_3 23 rfl rfl
theorem dksJ17_getChars_5 : cJ17_getChars.data.toList.drop 115 = dktJ17_getChars_5 := dk_seg dksJ17_getChars_4 23 rfl rfl
theorem dJ17_getChars_0 : decode cJ17_getChars 0 = .ok (.iload_n 1, 1) := dk_27 (dk_at dksJ17_getChars_0 0 rfl rfl)
theorem dJ17_getChars_1 : decode cJ17_getChars 1 = .ok (.istore 5, 2) := dk_54 5 (dk_at dksJ17_getChars_0 1 rfl rfl)
theorem dJ17_getChars_3 : decode cJ17_getChars 3 = .ok (.iload_n 0, 1) := dk_26 (dk_at dksJ17_getChars_0 3 rfl rfl)
theorem dJ17_getChars_4 : decode cJ17_getChars 4 = .ok (.ifCond .ge 7, 3) := dk_156 0 7 (dk_at dksJ17_getChars_0 4 rfl rfl)
theorem dJ17_getChars_7 : decode cJ17_getChars 7 = .ok (.iconst 1, 1) := dk_4 (dk_at dksJ17_getChars_0 7 rfl rfl)
theorem dJ17_getChars_8 : decode cJ17_getChars 8 = .ok (.goto 4, 3) := dk_167 0 4 (dk_at dksJ17_getChars_0 8 rfl rfl)
theorem dJ17_getChars_11 : decode cJ17_getChars 11 = .ok (.iconst 0, 1) := dk_3 (dk_at dksJ17_getChars_0 11 rfl rfl)
theorem dJ17_getChars_12 : decode cJ17_getChars 12 = .ok (.istore 6, 2) := dk_54 6 (dk_at dksJ17_getChars_0 12 rfl rfl)
theorem dJ17_getChars_14 : decode cJ17_getChars 14 = .ok (.iload 6, 2) := dk_21 6 (dk_at dksJ17_getChars_0 14 rfl rfl)
theorem dJ17_getChars_16 : decode cJ17_getChars 16 = .ok (.ifCond .ne 6, 3) := dk_154 0 6 (dk_at dksJ17_getChars_0 16 rfl rfl)
theorem dJ17_getChars_19 : decode cJ17_getChars 19 = .ok (.iload_n 0, 1) := dk_26 (dk_at dksJ17_getChars_0 19 rfl rfl)
theorem dJ17_getChars_20 : decode cJ17_getChars 20 = .ok (.ineg, 1) := dk_116 (dk_at dksJ17_getChars_0 20 rfl rfl)
theorem dJ17_getChars_21 : decode cJ17_getChars 21 = .ok (.istore_n 0, 1) := dk_59 (dk_at dksJ17_getChars_0 21 rfl rfl)
theorem dJ17_getChars_22 : decode cJ17_getChars 22 = .ok (.iload_n 0, 1) := dk_26 (dk_at dksJ17_getChars_0 22 rfl rfl)
theorem dJ17_getChars_23 : decode cJ17_getChars 23 = .ok (.bipush (-100), 2) := dk_16 156 (dk_at dksJ17_getChars_1 0 rfl rfl)
theorem dJ17_getChars_25 : decode cJ17_getChars 25 = .ok (.if_icmp .gt 47, 3) := dk_163 0 47 (dk_at dksJ17_getChars_1 2 rfl rfl)
theorem dJ17_getChars_28 : decode cJ17_getChars 28 = .ok (.iload_n 0, 1) := dk_26 (dk_at dksJ17_getChars_1 5 rfl rfl)
theorem dJ17_getChars_29 : decode cJ17_getChars 29 = .ok (.bipush 100, 2) := dk_16 100 (dk_at dksJ17_getChars_1 6 rfl rfl)
theorem dJ17_getChars_31 : decode cJ17_getChars 31 = .ok (.idiv, 1) := dk_108 (dk_at dksJ17_getChars_1 8 rfl rfl)
theorem dJ17_getChars_32 : decode cJ17_getChars 32 = .ok (.istore_n 3, 1) := dk_62 (dk_at dksJ17_getChars_1 9 rfl rfl)
theorem dJ17_getChars_33 : decode cJ17_getChars 33 = .ok (.iload_n 3, 1) := dk_29 (dk_at dksJ17_getChars_1 10 rfl rfl)
theorem dJ17_getChars_34 : decode cJ17_getChars 34 = .ok (.bipush 100, 2) := dk_16 100 (dk_at dksJ17_getChars_1 11 rfl rfl)
theorem dJ17_getChars_36 : decode cJ17_getChars 36 = .ok (.imul, 1) := dk_104 (dk_at dksJ17_getChars_1 13 rfl rfl)
theorem dJ17_getChars_37 : decode cJ17_getChars 37 = .ok (.iload_n 0, 1) := dk_26 (dk_at dksJ17_getChars_1 14 rfl rfl)
theorem dJ17_getChars_38 : decode cJ17_getChars 38 = .ok (.isub, 1) := dk_100 (dk_at dksJ17_getChars_1 15 rfl rfl)
theorem dJ17_getChars_39 : decode cJ17_getChars 39 = .ok (.istore 4, 2) := dk_54 4 (dk_at dksJ17_getChars_1 16 rfl rfl)
theorem dJ17_getChars_41 : decode cJ17_getChars 41 = .ok (.iload_n 3, 1) := dk_29 (dk_at dksJ17_getChars_1 18 rfl rfl)
theorem dJ17_getChars_42 : decode cJ17_getChars 42 = .ok (.istore_n 0, 1) := dk_59 (dk_at dksJ17_getChars_1 19 rfl rfl)
theorem dJ17_getChars_43 : decode cJ17_getChars 43 = .ok (.aload_n 2, 1) := dk_44 (dk_at dksJ17_getChars_1 20 rfl rfl)
theorem dJ17_getChars_44 : decode cJ17_getChars 44 = .ok (.iinc 5 (-1), 3) := dk_132 5 255 (dk_at dksJ17_getChars_1 21 rfl rfl)
theorem dJ17_getChars_47 : decode cJ17_getChars 47 = .ok (.iload 5, 2) := dk_21 5 (dk_at dksJ17_getChars_2 0 rfl rfl)
theorem dJ17_getChars_49 : decode cJ17_getChars 49 = .ok (.getstatic 83, 3) := dk_178 0 83 (dk_at dksJ17_getChars_2 2 rfl rfl)
theorem dJ17_getChars_52 : decode cJ17_getChars 52 = .ok (.iload 4, 2) := dk_21 4 (dk_at dksJ17_getChars_2 5 rfl rfl)
theorem dJ17_getChars_54 : decode cJ17_getChars 54 = .ok (.baload, 1) := dk_51 (dk_at dksJ17_getChars_2 7 rfl rfl)
theorem dJ17_getChars_55 : decode cJ17_getChars 55 = .ok (.bastore, 1) := dk_84 (dk_at dksJ17_getChars_2 8 rfl rfl)
theorem dJ17_getChars_56 : decode cJ17_getChars 56 = .ok (.aload_n 2, 1) := dk_44 (dk_at dksJ17_getChars_2 9 rfl rfl)
theorem dJ17_getChars_57 : decode cJ17_getChars 57 = .ok (.iinc 5 (-1), 3) := dk_132 5 255 (dk_at dksJ17_getChars_2 10 rfl rfl)
theorem dJ17_getChars_60 : decode cJ17_getChars 60 = .ok (.iload 5, 2) := dk_21 5 (dk_at dksJ17_getChars_2 13 rfl rfl)
theorem dJ17_getChars_62 : decode cJ17_getChars 62 = .ok (.getstatic 87, 3) := dk_178 0 87 (dk_at dksJ17_getChars_2 15 rfl rfl)
theorem dJ17_getChars_65 : decode cJ17_getChars 65 = .ok (.iload 4, 2) := dk_21 4 (dk_at dksJ17_getChars_2 18 rfl rfl)
theorem dJ17_getChars_67 : decode cJ17_getChars 67 = .ok (.baload, 1) := dk_51 (dk_at dksJ17_getChars_2 20 rfl rfl)
theorem dJ17_getChars_68 : decode cJ17_getChars 68 = .ok (.bastore, 1) := dk_84 (dk_at dksJ17_getChars_2 21 rfl rfl)
theorem dJ17_getChars_69 : decode cJ17_getChars 69 = .ok (.goto (-47), 3) := dk_167 255 209 (dk_at dksJ17_getChars_3 0 rfl rfl)
theorem dJ17_getChars_72 : decode cJ17_getChars 72 = .ok (.aload_n 2, 1) := dk_44 (dk_at dksJ17_getChars_3 3 rfl rfl)
theorem dJ17_getChars_73 : decode cJ17_getChars 73 = .ok (.iinc 5 (-1), 3) := dk_132 5 255 (dk_at dksJ17_getChars_3 4 rfl rfl)
theorem dJ17_getChars_76 : decode cJ17_getChars 76 = .ok (.iload 5, 2) := dk_21 5 (dk_at dksJ17_getChars_3 7 rfl rfl)
theorem dJ17_getChars_78 : decode cJ17_getChars 78 = .ok (.getstatic 83, 3) := dk_178 0 83 (dk_at dksJ17_getChars_3 9 rfl rfl)
theorem dJ17_getChars_81 : decode cJ17_getChars 81 = .ok (.iload_n 0, 1) := dk_26 (dk_at dksJ17_getChars_3 12 rfl rfl)
theorem dJ17_getChars_82 : decode cJ17_getChars 82 = .ok (.ineg, 1) := dk_116 (dk_at dksJ17_getChars_3 13 rfl rfl)
theorem dJ17_getChars_83 : decode cJ17_getChars 83 = .ok (.baload, 1) := dk_51 (dk_at dksJ17_getChars_3 14 rfl rfl)
theorem dJ17_getChars_84 : decode cJ17_getChars 84 = .ok (.bastore, 1) := dk_84 (dk_at dksJ17_getChars_3 15 rfl rfl)
theorem dJ17_getChars_85 : decode cJ17_getChars 85 = .ok (.iload_n 0, 1) := dk_26 (dk_at dksJ17_getChars_3 16 rfl rfl)
theorem dJ17_getChars_86 : decode cJ17_getChars 86 = .ok (.bipush (-9), 2) := dk_16 247 (dk_at dksJ17_getChars_3 17 rfl rfl)
theorem dJ17_getChars_88 : decode cJ17_getChars 88 = .ok (.if_icmp .ge 16, 3) := dk_162 0 16 (dk_at dksJ17_getChars_3 19 rfl rfl)
theorem dJ17_getChars_91 : decode cJ17_getChars 91 = .ok (.aload_n 2, 1) := dk_44 (dk_at dksJ17_getChars_3 22 rfl rfl)
theorem dJ17_getChars_92 : decode cJ17_getChars 92 = .ok (.iinc 5 (-1), 3) := dk_132 5 255 (dk_at dksJ17_getChars_4 0 rfl rfl)
theorem dJ17_getChars_95 : decode cJ17_getChars 95 = .ok (.iload 5, 2) := dk_21 5 (dk_at dksJ17_getChars_4 3 rfl rfl)
theorem dJ17_getChars_97 : decode cJ17_getChars 97 = .ok (.getstatic 87, 3) := dk_178 0 87 (dk_at dksJ17_getChars_4 5 rfl rfl)
theorem dJ17_getChars_100 : decode cJ17_getChars 100 = .ok (.iload_n 0, 1) := dk_26 (dk_at dksJ17_getChars_4 8 rfl rfl)
theorem dJ17_getChars_101 : decode cJ17_getChars 101 = .ok (.ineg, 1) := dk_116 (dk_at dksJ17_getChars_4 9 rfl rfl)
theorem dJ17_getChars_102 : decode cJ17_getChars 102 = .ok (.baload, 1) := dk_51 (dk_at dksJ17_getChars_4 10 rfl rfl)
theorem dJ17_getChars_103 : decode cJ17_getChars 103 = .ok (.bastore, 1) := dk_84 (dk_at dksJ17_getChars_4 11 rfl rfl)
theorem dJ17_getChars_104 : decode cJ17_getChars 104 = .ok (.iload 6, 2) := dk_21 6 (dk_at dksJ17_getChars_4 12 rfl rfl)
theorem dJ17_getChars_106 : decode cJ17_getChars 106 = .ok (.ifCond .eq 12, 3) := dk_153 0 12 (dk_at dksJ17_getChars_4 14 rfl rfl)
theorem dJ17_getChars_109 : decode cJ17_getChars 109 = .ok (.aload_n 2, 1) := dk_44 (dk_at dksJ17_getChars_4 17 rfl rfl)
theorem dJ17_getChars_110 : decode cJ17_getChars 110 = .ok (.iinc 5 (-1), 3) := dk_132 5 255 (dk_at dksJ17_getChars_4 18 rfl rfl)
theorem dJ17_getChars_113 : decode cJ17_getChars 113 = .ok (.iload 5, 2) := dk_21 5 (dk_at dksJ17_getChars_4 21 rfl rfl)
theorem dJ17_getChars_115 : decode cJ17_getChars 115 = .ok (.bipush 45, 2) := dk_16 45 (dk_at dksJ17_getChars_5 0 rfl rfl)
theorem dJ17_getChars_117 : decode cJ17_getChars 117 = .ok (.bastore, 1) := dk_84 (dk_at dksJ17_getChars_5 2 rfl rfl)
theorem dJ17_getChars_118 : decode cJ17_getChars 118 = .ok (.iload 5, 2) := dk_21 5 (dk_at dksJ17_getChars_5 3 rfl rfl)
theorem dJ17_getChars_120 : decode cJ17_getChars 120 = .ok (.ireturn, 1) := dk_172 (dk_at dksJ17_getChars_5 5 rfl rfl)
def dkwJ16_getChars_8 : List UInt8 := [21, 7, 16, 45, 84, 21, 7, 172]
abbrev dktJ16_getChars_8 : List UInt8 := dkwJ16_getChars_8 ++ []
def dkwJ16_getChars_7 : List UInt8 := [45, 132, 7, 255, 21, 7, 178, 0, 137, 21, 10, 116, 51, 84, 21, 8, 153, 0, 12, 45, 132, 7, 255]
abbrev dktJ16_getChars_7 : List UInt8 := dkwJ16_getChars_7 ++ dktJ16_getChars_8
def dkwJ16_getChars_6 : List UInt8 := [167, 255, 202, 45, 132, 7, 255, 21, 7, 178, 0, 133, 21, 10, 116, 51, 84, 21, 10, 16, 247, 162, 0, 17]
abbrev dktJ16_getChars_6 : List UInt8 := dkwJ16_getChars_6 ++ dktJ16_getChars_7
def dkwJ16_getChars_5 : List UInt8 := [21, 7, 178, 0, 133, 21, 6, 51, 84, 45, 132, 7, 255, 21, 7, 178, 0, 137, 21, 6, 51, 84]
abbrev dktJ16_getChars_5 : List UInt8 := dkwJ16_getChars_5 ++ dktJ16_getChars_6
def dkwJ16_getChars_4 : List UInt8 := [16, 100, 108, 54, 9, 21, 9, 16, 100, 104, 21, 10, 100, 54, 6, 21, 9, 54, 10, 45, 132, 7, 255]
abbrev dktJ16_getChars_4 : List UInt8 := dkwJ16_getChars_4 ++ dktJ16_getChars_5
def dkwJ16_getChars_3 : List UInt8 := [178, 0, 137, 21, 6, 51, 84, 167, 255, 201, 30, 136, 54, 10, 21, 10, 16, 156, 163, 0, 53, 21, 10]
abbrev dktJ16_getChars_3 : List UInt8 := dkwJ16_getChars_3 ++ dktJ16_getChars_4
def dkwJ16_getChars_2 : List UInt8 := [54, 6, 22, 4, 63, 45, 132, 7, 255, 21, 7, 178, 0, 133, 21, 6, 51, 84, 45, 132, 7, 255, 21, 7]
abbrev dktJ16_getChars_2 : List UInt8 := dkwJ16_getChars_2 ++ dktJ16_getChars_3
def dkwJ16_getChars_1 : List UInt8 := [30, 20, 0, 129, 148, 157, 0, 53, 30, 20, 0, 131, 109, 55, 4, 22, 4, 20, 0, 131, 105, 30, 101, 136]
abbrev dktJ16_getChars_1 : List UInt8 := dkwJ16_getChars_1 ++ dktJ16_getChars_2
def dkwJ16_getChars_0 : List UInt8 := [28, 54, 7, 30, 9, 148, 156, 0, 7, 4, 167, 0, 4, 3, 54, 8, 21, 8, 154, 0, 6, 30, 117, 63]
abbrev dktJ16_getChars_0 : List UInt8 := dkwJ16_getChars_0 ++ dktJ16_getChars_1
theorem dksJ16_getChars_0 : cJ16_getChars.data.toList.drop 0 = dktJ16_getChars_0 := by decide +kernel
theorem dksJ16_getChars_1 : cJ16_getChars.data.toList.drop 24 = dktJ16_getChars_1 := dk_seg dksJ16_getChars_0 24 rfl rfl
theorem dksJ16_getChars_2 : cJ16_getChars.data.toList.drop 48 = dktJ16_getChars_2 := dk_seg dksJ16_getChars_1 24 rfl rfl
theorem dksJ16_getChars_3 : cJ16_getChars.data.toList.drop 72 = dktJ16_getChars_3 := dk_seg dksJ16_getChars_2 24 rfl rfl
theorem dksJ16_getChars_4 : cJ16_getChars.data.toList.drop 95 = dktJ16_getChars_4 := dk_seg dksJ16_getChars_3 23 rfl rfl
theorem dksJ16_getChars_5 : cJ16_getChars.data.toList.drop 118 = dktJ16_getChars_5 := dk_seg dksJ16_getChars_4 23 rfl rfl
theorem dksJ16_getChars_6 : cJ16_getChars.data.toList.drop 140 = dktJ16_getChars_6 := dk_seg dksJ16_getChars_5 22 rfl rfl
theorem dksJ16_getChars_7 : cJ16_getChars.data.toList.drop 164 = dktJ16_getChars_7 := dk_seg dksJ16_getChars_6 24 rfl rfl
theorem dksJ16_getChars_8 : cJ16_getChars.data.toList.drop 187 = dktJ16_getChars_8 := dk_seg dksJ16_getChars_7 23 rfl rfl
theorem dJ16_getChars_0 : decode cJ16_getChars 0 = .ok (.iload_n 2, 1) := dk_28 (dk_at dksJ16_getChars_0 0 rfl rfl)
theorem dJ16_getChars_1 : decode cJ16_getChars 1 = .ok (.istore 7, 2) := dk_54 7 (dk_at dksJ16_getChars_0 1 rfl rfl)
theorem dJ16_getChars_3 : decode cJ16_getChars 3 = .ok (.lload_n 0, 1) := dk_30 (dk_at dksJ16_getChars_0 3 rfl rfl)
theorem dJ16_getChars_4 : decode cJ16_getChars 4 = .ok (.lconst 0, 1) := dk_9 (dk_at dksJ16_getChars_0 4 rfl rfl)
theorem dJ16_getChars_5 : decode cJ16_getChars 5 = .ok (.lcmp, 1) := dk_148 (dk_at dksJ16_getChars_0 5 rfl rfl)
theorem dJ16_getChars_6 : decode cJ16_getChars 6 = .ok (.ifCond .ge 7, 3) := dk_156 0 7 (dk_at dksJ16_getChars_0 6 rfl rfl)
theorem dJ16_getChars_9 : decode cJ16_getChars 9 = .ok (.iconst 1, 1) := dk_4 (dk_at dksJ16_getChars_0 9 rfl rfl)
theorem dJ16_getChars_10 : decode cJ16_getChars 10 = .ok (.goto 4, 3) := dk_167 0 4 (dk_at dksJ16_getChars_0 10 rfl rfl)
theorem dJ16_getChars_13 : decode cJ16_getChars 13 = .ok (.iconst 0, 1) := dk_3 (dk_at dksJ16_getChars_0 13 rfl rfl)
theorem dJ16_getChars_14 : decode cJ16_getChars 14 = .ok (.istore 8, 2) := dk_54 8 (dk_at dksJ16_getChars_0 14 rfl rfl)
theorem dJ16_getChars_16 : decode cJ16_getChars 16 = .ok (.iload 8, 2) := dk_21 8 (dk_at dksJ16_getChars_0 16 rfl rfl)
theorem dJ16_getChars_18 : decode cJ16_getChars 18 = .ok (.ifCond .ne 6, 3) := dk_154 0 6 (dk_at dksJ16_getChars_0 18 rfl rfl)
theorem dJ16_getChars_21 : decode cJ16_getChars 21 = .ok (.lload_n 0, 1) := dk_30 (dk_at dksJ16_getChars_0 21 rfl rfl)
theorem dJ16_getChars_22 : decode cJ16_getChars 22 = .ok (.lneg, 1) := dk_117 (dk_at dksJ16_getChars_0 22 rfl rfl)
theorem dJ16_getChars_23 : decode cJ16_getChars 23 = .ok (.lstore_n 0, 1) := dk_63 (dk_at dksJ16_getChars_0 23 rfl rfl)
theorem dJ16_getChars_24 : decode cJ16_getChars 24 = .ok (.lload_n 0, 1) := dk_30 (dk_at dksJ16_getChars_1 0 rfl rfl)
theorem dJ16_getChars_25 : decode cJ16_getChars 25 = .ok (.ldc2_w 129, 3) := dk_20 0 129 (dk_at dksJ16_getChars_1 1 rfl rfl)
theorem dJ16_getChars_28 : decode cJ16_getChars 28 = .ok (.lcmp, 1) := dk_148 (dk_at dksJ16_getChars_1 4 rfl rfl)
theorem dJ16_getChars_29 : decode cJ16_getChars 29 = .ok (.ifCond .gt 53, 3) := dk_157 0 53 (dk_at dksJ16_getChars_1 5 rfl rfl)
theorem dJ16_getChars_32 : decode cJ16_getChars 32 = .ok (.lload_n 0, 1) := dk_30 (dk_at dksJ16_getChars_1 8 rfl rfl)
theorem dJ16_getChars_33 : decode cJ16_getChars 33 = .ok (.ldc2_w 131, 3) := dk_20 0 131 (dk_at dksJ16_getChars_1 9 rfl rfl)
theorem dJ16_getChars_36 : decode cJ16_getChars 36 = .ok (.ldiv, 1) := dk_109 (dk_at dksJ16_getChars_1 12 rfl rfl)
theorem dJ16_getChars_37 : decode cJ16_getChars 37 = .ok (.lstore 4, 2) := dk_55 4 (dk_at dksJ16_getChars_1 13 rfl rfl)
theorem dJ16_getChars_39 : decode cJ16_getChars 39 = .ok (.lload 4, 2) := dk_22 4 (dk_at dksJ16_getChars_1 15 rfl rfl)
theorem dJ16_getChars_41 : decode cJ16_getChars 41 = .ok (.ldc2_w 131, 3) := dk_20 0 131 (dk_at dksJ16_getChars_1 17 rfl rfl)
theorem dJ16_getChars_44 : decode cJ16_getChars 44 = .ok (.lmul, 1) := dk_105 (dk_at dksJ16_getChars_1 20 rfl rfl)
theorem dJ16_getChars_45 : decode cJ16_getChars 45 = .ok (.lload_n 0, 1) := dk_30 (dk_at dksJ16_getChars_1 21 rfl rfl)
theorem dJ16_getChars_46 : decode cJ16_getChars 46 = .ok (.lsub, 1) := dk_101 (dk_at dksJ16_getChars_1 22 rfl rfl)
theorem dJ16_getChars_47 : decode cJ16_getChars 47 = .ok (.l2i, 1) := dk_136 (dk_at dksJ16_getChars_1 23 rfl rfl)
theorem dJ16_getChars_48 : decode cJ16_getChars 48 = .ok (.istore 6, 2) := dk_54 6 (dk_at dksJ16_getChars_2 0 rfl rfl)
theorem dJ16_getChars_50 : decode cJ16_getChars 50 = .ok (.lload 4, 2) := dk_22 4 (dk_at dksJ16_getChars_2 2 rfl rfl)
theorem dJ16_getChars_52 : decode cJ16_getChars 52 = .ok (.lstore_n 0, 1) := dk_63 (dk_at dksJ16_getChars_2 4 rfl rfl)
theorem dJ16_getChars_53 : decode cJ16_getChars 53 = .ok (.aload_n 3, 1) := dk_45 (dk_at dksJ16_getChars_2 5 rfl rfl)
theorem dJ16_getChars_54 : decode cJ16_getChars 54 = .ok (.iinc 7 (-1), 3) := dk_132 7 255 (dk_at dksJ16_getChars_2 6 rfl rfl)
theorem dJ16_getChars_57 : decode cJ16_getChars 57 = .ok (.iload 7, 2) := dk_21 7 (dk_at dksJ16_getChars_2 9 rfl rfl)
theorem dJ16_getChars_59 : decode cJ16_getChars 59 = .ok (.getstatic 133, 3) := dk_178 0 133 (dk_at dksJ16_getChars_2 11 rfl rfl)
theorem dJ16_getChars_62 : decode cJ16_getChars 62 = .ok (.iload 6, 2) := dk_21 6 (dk_at dksJ16_getChars_2 14 rfl rfl)
theorem dJ16_getChars_64 : decode cJ16_getChars 64 = .ok (.baload, 1) := dk_51 (dk_at dksJ16_getChars_2 16 rfl rfl)
theorem dJ16_getChars_65 : decode cJ16_getChars 65 = .ok (.bastore, 1) := dk_84 (dk_at dksJ16_getChars_2 17 rfl rfl)
theorem dJ16_getChars_66 : decode cJ16_getChars 66 = .ok (.aload_n 3, 1) := dk_45 (dk_at dksJ16_getChars_2 18 rfl rfl)
theorem dJ16_getChars_67 : decode cJ16_getChars 67 = .ok (.iinc 7 (-1), 3) := dk_132 7 255 (dk_at dksJ16_getChars_2 19 rfl rfl)
theorem dJ16_getChars_70 : decode cJ16_getChars 70 = .ok (.iload 7, 2) := dk_21 7 (dk_at dksJ16_getChars_2 22 rfl rfl)
theorem dJ16_getChars_72 : decode cJ16_getChars 72 = .ok (.getstatic 137, 3) := dk_178 0 137 (dk_at dksJ16_getChars_3 0 rfl rfl)
theorem dJ16_getChars_75 : decode cJ16_getChars 75 = .ok (.iload 6, 2) := dk_21 6 (dk_at dksJ16_getChars_3 3 rfl rfl)
theorem dJ16_getChars_77 : decode cJ16_getChars 77 = .ok (.baload, 1) := dk_51 (dk_at dksJ16_getChars_3 5 rfl rfl)
theorem dJ16_getChars_78 : decode cJ16_getChars 78 = .ok (.bastore, 1) := dk_84 (dk_at dksJ16_getChars_3 6 rfl rfl)
theorem dJ16_getChars_79 : decode cJ16_getChars 79 = .ok (.goto (-55), 3) := dk_167 255 201 (dk_at dksJ16_getChars_3 7 rfl rfl)
theorem dJ16_getChars_82 : decode cJ16_getChars 82 = .ok (.lload_n 0, 1) := dk_30 (dk_at dksJ16_getChars_3 10 rfl rfl)
theorem dJ16_getChars_83 : decode cJ16_getChars 83 = .ok (.l2i, 1) := dk_136 (dk_at dksJ16_getChars_3 11 rfl rfl)
theorem dJ16_getChars_84 : decode cJ16_getChars 84 = .ok (.istore 10, 2) := dk_54 10 (dk_at dksJ16_getChars_3 12 rfl rfl)
theorem dJ16_getChars_86 : decode cJ16_getChars 86 = .ok (.iload 10, 2) := dk_21 10 (dk_at dksJ16_getChars_3 14 rfl rfl)
theorem dJ16_getChars_88 : decode cJ16_getChars 88 = .ok (.bipush (-100), 2) := dk_16 156 (dk_at dksJ16_getChars_3 16 rfl rfl)
theorem dJ16_getChars_90 : decode cJ16_getChars 90 = .ok (.if_icmp .gt 53, 3) := dk_163 0 53 (dk_at dksJ16_getChars_3 18 rfl rfl)
theorem dJ16_getChars_93 : decode cJ16_getChars 93 = .ok (.iload 10, 2) := dk_21 10 (dk_at dksJ16_getChars_3 21 rfl rfl)
theorem dJ16_getChars_95 : decode cJ16_getChars 95 = .ok (.bipush 100, 2) := dk_16 100 (dk_at dksJ16_getChars_4 0 rfl rfl)
theorem dJ16_getChars_97 : decode cJ16_getChars 97 = .ok (.idiv, 1) := dk_108 (dk_at dksJ16_getChars_4 2 rfl rfl)
theorem dJ16_getChars_98 : decode cJ16_getChars 98 = .ok (.istore 9, 2) := dk_54 9 (dk_at dksJ16_getChars_4 3 rfl rfl)
theorem dJ16_getChars_100 : decode cJ16_getChars 100 = .ok (.iload 9, 2) := dk_21 9 (dk_at dksJ16_getChars_4 5 rfl rfl)
theorem dJ16_getChars_102 : decode cJ16_getChars 102 = .ok (.bipush 100, 2) := dk_16 100 (dk_at dksJ16_getChars_4 7 rfl rfl)
theorem dJ16_getChars_104 : decode cJ16_getChars 104 = .ok (.imul, 1) := dk_104 (dk_at dksJ16_getChars_4 9 rfl rfl)
theorem dJ16_getChars_105 : decode cJ16_getChars 105 = .ok (.iload 10, 2) := dk_21 10 (dk_at dksJ16_getChars_4 10 rfl rfl)
theorem dJ16_getChars_107 : decode cJ16_getChars 107 = .ok (.isub, 1) := dk_100 (dk_at dksJ16_getChars_4 12 rfl rfl)
theorem dJ16_getChars_108 : decode cJ16_getChars 108 = .ok (.istore 6, 2) := dk_54 6 (dk_at dksJ16_getChars_4 13 rfl rfl)
theorem dJ16_getChars_110 : decode cJ16_getChars 110 = .ok (.iload 9, 2) := dk_21 9 (dk_at dksJ16_getChars_4 15 rfl rfl)
theorem dJ16_getChars_112 : decode cJ16_getChars 112 = .ok (.istore 10, 2) := dk_54 10 (dk_at dksJ16_getChars_4 17 rfl rfl)
theorem dJ16_getChars_114 : decode cJ16_getChars 114 = .ok (.aload_n 3, 1) := dk_45 (dk_at dksJ16_getChars_4 19 rfl rfl)
theorem dJ16_getChars_115 : decode cJ16_getChars 115 = .ok (.iinc 7 (-1), 3) := dk_132 7 255 (dk_at dksJ16_getChars_4 20 rfl rfl)
theorem dJ16_getChars_118 : decode cJ16_getChars 118 = .ok (.iload 7, 2) := dk_21 7 (dk_at dksJ16_getChars_5 0 rfl rfl)
theorem dJ16_getChars_120 : decode cJ16_getChars 120 = .ok (.getstatic 133, 3) := dk_178 0 133 (dk_at dksJ16_getChars_5 2 rfl rfl)
theorem dJ16_getChars_123 : decode cJ16_getChars 123 = .ok (.iload 6, 2) := dk_21 6 (dk_at dksJ16_getChars_5 5 rfl rfl)
theorem dJ16_getChars_125 : decode cJ16_getChars 125 = .ok (.baload, 1) := dk_51 (dk_at dksJ16_getChars_5 7 rfl rfl)
theorem dJ16_getChars_126 : decode cJ16_getChars 126 = .ok (.bastore, 1) := dk_84 (dk_at dksJ16_getChars_5 8 rfl rfl)
theorem dJ16_getChars_127 : decode cJ16_getChars 127 = .ok (.aload_n 3, 1) := dk_45 (dk_at dksJ16_getChars_5 9 rfl rfl)
theorem dJ16_getChars_128 : decode cJ16_getChars 128 = .ok (.iinc 7 (-1), 3) := dk_132 7 255 (dk_at dksJ16_getChars_5 10 rfl rfl)
theorem dJ16_getChars_131 : decode cJ16_getChars 131 = .ok (.iload 7, 2) := dk_21 7 (dk_at dksJ16_getChars_5 13 rfl rfl)
theorem dJ16_getChars_133 : decode cJ16_getChars 133 = .ok (.getstatic 137, 3) := dk_178 0 137 (dk_at dksJ16_getChars_5 15 rfl rfl)
theorem dJ16_getChars_136 : decode cJ16_getChars 136 = .ok (.iload 6, 2) := dk_21 6 (dk_at dksJ16_getChars_5 18 rfl rfl)
theorem dJ16_getChars_138 : decode cJ16_getChars 138 = .ok (.baload, 1) := dk_51 (dk_at dksJ16_getChars_5 20 rfl rfl)
theorem dJ16_getChars_139 : decode cJ16_getChars 139 = .ok (.bastore, 1) := dk_84 (dk_at dksJ16_getChars_5 21 rfl rfl)
theorem dJ16_getChars_140 : decode cJ16_getChars 140 = .ok (.goto (-54), 3) := dk_167 255 202 (dk_at dksJ16_getChars_6 0 rfl rfl)
theorem dJ16_getChars_143 : decode cJ16_getChars 143 = .ok (.aload_n 3, 1) := dk_45 (dk_at dksJ16_getChars_6 3 rfl rfl)
theorem dJ16_getChars_144 : decode cJ16_getChars 144 = .ok (.iinc 7 (-1), 3) := dk_132 7 255 (dk_at dksJ16_getChars_6 4 rfl rfl)
theorem dJ16_getChars_147 : decode cJ16_getChars 147 = .ok (.iload 7, 2) := dk_21 7 (dk_at dksJ16_getChars_6 7 rfl rfl)
theorem dJ16_getChars_149 : decode cJ16_getChars 149 = .ok (.getstatic 133, 3) := dk_178 0 133 (dk_at dksJ16_getChars_6 9 rfl rfl)
theorem dJ16_getChars_152 : decode cJ16_getChars 152 = .ok (.iload 10, 2) := dk_21 10 (dk_at dksJ16_getChars_6 12 rfl rfl)
theorem dJ16_getChars_154 : decode cJ16_getChars 154 = .ok (.ineg, 1) := dk_116 (dk_at dksJ16_getChars_6 14 rfl rfl)
theorem dJ16_getChars_155 : decode cJ16_getChars 155 = .ok (.baload, 1) := dk_51 (dk_at dksJ16_getChars_6 15 rfl rfl)
theorem dJ16_getChars_156 : decode cJ16_getChars 156 = .ok (.bastore, 1) := dk_84 (dk_at dksJ16_getChars_6 16 rfl rfl)
theorem dJ16_getChars_157 : decode cJ16_getChars 157 = .ok (.iload 10, 2) := dk_21 10 (dk_at dksJ16_getChars_6 17 rfl rfl)
theorem dJ16_getChars_159 : decode cJ16_getChars 159 = .ok (.bipush (-9), 2) := dk_16 247 (dk_at dksJ16_getChars_6 19 rfl rfl)
theorem dJ16_getChars_161 : decode cJ16_getChars 161 = .ok (.if_icmp .ge 17, 3) := dk_162 0 17 (dk_at dksJ16_getChars_6 21 rfl rfl)
theorem dJ16_getChars_164 : decode cJ16_getChars 164 = .ok (.aload_n 3, 1) := dk_45 (dk_at dksJ16_getChars_7 0 rfl rfl)
theorem dJ16_getChars_165 : decode cJ16_getChars 165 = .ok (.iinc 7 (-1), 3) := dk_132 7 255 (dk_at dksJ16_getChars_7 1 rfl rfl)
theorem dJ16_getChars_168 : decode cJ16_getChars 168 = .ok (.iload 7, 2) := dk_21 7 (dk_at dksJ16_getChars_7 4 rfl rfl)
theorem dJ16_getChars_170 : decode cJ16_getChars 170 = .ok (.getstatic 137, 3) := dk_178 0 137 (dk_at dksJ16_getChars_7 6 rfl rfl)
theorem dJ16_getChars_173 : decode cJ16_getChars 173 = .ok (.iload 10, 2) := dk_21 10 (dk_at dksJ16_getChars_7 9 rfl rfl)
theorem dJ16_getChars_175 : decode cJ16_getChars 175 = .ok (.ineg, 1) := dk_116 (dk_at dksJ16_getChars_7 11 rfl rfl)
theorem dJ16_getChars_176 : decode cJ16_getChars 176 = .ok (.baload, 1) := dk_51 (dk_at dksJ16_getChars_7 12 rfl rfl)
theorem dJ16_getChars_177 : decode cJ16_getChars 177 = .ok (.bastore, 1) := dk_84 (dk_at dksJ16_getChars_7 13 rfl rfl)
theorem dJ16_getChars_178 : decode cJ16_getChars 178 = .ok (.iload 8, 2) := dk_21 8 (dk_at dksJ16_getChars_7 14 rfl rfl)
theorem dJ16_getChars_180 : decode cJ16_getChars 180 = .ok (.ifCond .eq 12, 3) := dk_153 0 12 (dk_at dksJ16_getChars_7 16 rfl rfl)
theorem dJ16_getChars_183 : decode cJ16_getChars 183 = .ok (.aload_n 3, 1) := dk_45 (dk_at dksJ16_getChars_7 19 rfl rfl)
theorem dJ16_getChars_184 : decode cJ16_getChars 184 = .ok (.iinc 7 (-1), 3) := dk_132 7 255 (dk_at dksJ16_getChars_7 20 rfl rfl)
theorem dJ16_getChars_187 : decode cJ16_getChars 187 = .ok (.iload 7, 2) := dk_21 7 (dk_at dksJ16_getChars_8 0 rfl rfl)
theorem dJ16_getChars_189 : decode cJ16_getChars 189 = .ok (.bipush 45, 2) := dk_16 45 (dk_at dksJ16_getChars_8 2 rfl rfl)
theorem dJ16_getChars_191 : decode cJ16_getChars 191 = .ok (.bastore, 1) := dk_84 (dk_at dksJ16_getChars_8 4 rfl rfl)
theorem dJ16_getChars_192 : decode cJ16_getChars 192 = .ok (.iload 7, 2) := dk_21 7 (dk_at dksJ16_getChars_8 5 rfl rfl)
theorem dJ16_getChars_194 : decode cJ16_getChars 194 = .ok (.ireturn, 1) := dk_172 (dk_at dksJ16_getChars_8 7 rfl rfl)
/-! ### bytes laid over bytes -/
def kOnes (i : Nat) : Int32 := nI (48 + i % 10)
def kTens (i : Nat) : Int32 := nI (48 + i / 10)
/-- Integer's two arrays of digits -/
def sD (z : State) (k : Nat → Nat) (A : Nat → Prop) (H : Heap) : Prop :=
  (gZ z "java/lang/Integer" "DigitOnes" "[B" (.ref (k 2)) A H ∧ gZ z "java/lang/Integer" "DigitTens" "[B" (.ref (k 3)) A H) ∧ (gI z false .byte H (k 2) 100 kOnes ∧ gI z false .byte H (k 3) 100 kTens) ∧ ¬ A (k 2) ∧ ¬ A (k 3)
theorem sD.call {z : State} {k : Nat → Nat} {A A1 : Nat → Prop} {H0 H : Heap} {locs : List Loc} (h : sD z k A H0) (hS : va_S A H0 H locs) (hA : ∀ q, A1 q → A q) : sD z k A1 H :=
  ⟨⟨h.1.1.call hS hA, h.1.2.call hS hA⟩, ⟨h.2.1.1.to (hS.2.1 _ h.2.1.1.lt h.2.2.1), h.2.1.2.to (hS.2.1 _ h.2.1.2.lt h.2.2.2)⟩, fun q => h.2.2.1 (hA _ q), fun q => h.2.2.2 (hA _ q)⟩
theorem sD.cur {z : State} {k : Nat → Nat} {A : Nat → Prop} {H0 H : Heap} {locs : List Loc} (h : sD z k A H0) (hS : va_S A H0 H locs) : sD z k A H := h.call hS (fun _ q => q)
/-- the text T laid over f from p on -/
def ovl (f : Nat → Int32) (p : Nat) (T : List Nat) : Nat → Int32 := fun j => if p ≤ j ∧ j < p + T.length then nI (T.getD (j - p) 0) else f j
theorem ovl_nil (f : Nat → Int32) (p : Nat) : ovl f p [] = f := by
  funext j
  unfold ovl
  rw [if_neg (by simp)]
theorem ovl_put {f : Nat → Int32} {p q : Nat} {T : List Nat} {d : Nat} {v : Int32} (hq : q + 1 = p) (hv : v = nI d) : upd (ovl f p T) q v = ovl f q (d :: T) := by
  funext j
  unfold upd ovl
  subst hq hv
  by_cases h : j = q
  · subst h
    rw [if_pos rfl, if_pos (by simp), Nat.sub_self]
    rfl
  · rw [if_neg h]
    by_cases h2 : q + 1 ≤ j ∧ j < q + 1 + T.length
    · rw [if_pos h2, if_pos (by simp; omega)]
      obtain ⟨e, he⟩ : ∃ e, j = q + 1 + e := ⟨j - (q + 1), by omega⟩
      rw [he, show q + 1 + e - (q + 1) = e by omega, show q + 1 + e - q = e + 1 by omega]
      rfl
    · rw [if_neg h2, if_neg (by simp; omega)]
theorem b8 : ∀ d, d < 128 → (nI d).toInt8.toInt32 = nI d := by decide +kernel
theorem kO8 {u : Nat} (h : u < 100) : (kOnes u).toInt8.toInt32 = nI (48 + u % 10) := b8 _ (by omega)
theorem kT8 {u : Nat} (h : u < 100) : (kTens u).toInt8.toInt32 = nI (48 + u / 10) := b8 _ (by omega)
/-- a whole number's text -/
def sdg (v : Int) : List Nat := (if v < 0 then [45] else []) ++ dg v.natAbs
theorem sdg_len (v : Int) : (sdg v).length = nd v.natAbs + mn v := by
  unfold sdg nd mn
  split <;> simp
theorem dg_two {m : Nat} (h : 100 ≤ m) : dg m = dg (m / 100) ++ [48 + m % 100 / 10, 48 + m % 100 % 10] := by
  rw [dg_ge (n := m) (by omega), dg_ge (n := m / 10) (by omega), Nat.div_div_eq_div_mul, List.append_assoc]
  congr 1
  show [48 + m / 10 % 10, 48 + m % 10] = _
  rw [show m % 100 / 10 = m / 10 % 10 by omega, show m % 100 % 10 = m % 10 by omega]
theorem nd_two {m : Nat} (h : 100 ≤ m) : nd m = nd (m / 100) + 2 := by unfold nd; rw [dg_two h]; simp
theorem iI_div {a b : Int} (h1 : -2147483648 ≤ a) (h2 : a < 2147483648) (hb1 : 1 < b) (hb2 : b < 2147483648) : iI a / iI b = iI (a.tdiv b) := by
  apply Int32.toInt_inj.mp
  have h3 : (a.tdiv b).natAbs ≤ a.natAbs := by
    rw [Int.natAbs_tdiv]
    exact Nat.div_le_self _ _
  rw [Int32.toInt_div_of_ne_right, iI_toInt h1 h2, iI_toInt (by omega) hb2, iI_toInt]
  · rcases Int.lt_or_le a 0 with q | q
    · have : a.tdiv b = -((-a).tdiv b) := by rw [Int.neg_tdiv, Int.neg_neg]
      have h5 : 0 ≤ (-a).tdiv b := Int.tdiv_nonneg (by omega) (by omega)
      omega
    · have h5 : 0 ≤ a.tdiv b := Int.tdiv_nonneg q (by omega)
      omega
  · rcases Int.lt_or_le a 0 with q | q
    · have h6 : a.tdiv b ≠ -2147483648 ∨ True := Or.inr trivial
      have h7 : (a.tdiv b).natAbs * 2 ≤ a.natAbs := by
        rw [Int.natAbs_tdiv]
        have := Nat.div_mul_le_self a.natAbs b.natAbs
        have h8 : 2 ≤ b.natAbs := by omega
        exact Nat.le_trans (Nat.mul_le_mul_left _ h8) this
      omega
    · omega
  · intro q
    have := congrArg Int32.toInt q
    rw [iI_toInt (by omega) hb2] at this
    have e : (-1 : Int32).toInt = -1 := by decide
    omega
theorem lI_div {a b : Int} (h1 : -9223372036854775808 ≤ a) (h2 : a < 9223372036854775808) (hb1 : 1 < b) (hb2 : b < 9223372036854775808) : lI a / lI b = lI (a.tdiv b) := by
  apply Int64.toInt_inj.mp
  have h3 : (a.tdiv b).natAbs ≤ a.natAbs := by
    rw [Int.natAbs_tdiv]
    exact Nat.div_le_self _ _
  rw [Int64.toInt_div_of_ne_right, lI_toInt h1 h2, lI_toInt (by omega) hb2, lI_toInt]
  · rcases Int.lt_or_le a 0 with q | q
    · have : a.tdiv b = -((-a).tdiv b) := by rw [Int.neg_tdiv, Int.neg_neg]
      have h5 : 0 ≤ (-a).tdiv b := Int.tdiv_nonneg (by omega) (by omega)
      omega
    · have h5 : 0 ≤ a.tdiv b := Int.tdiv_nonneg q (by omega)
      omega
  · rcases Int.lt_or_le a 0 with q | q
    · have h7 : (a.tdiv b).natAbs * 2 ≤ a.natAbs := by
        rw [Int.natAbs_tdiv]
        have := Nat.div_mul_le_self a.natAbs b.natAbs
        have h8 : 2 ≤ b.natAbs := by omega
        exact Nat.le_trans (Nat.mul_le_mul_left _ h8) this
      omega
    · omega
  · intro q
    have := congrArg Int64.toInt q
    rw [lI_toInt (by omega) hb2] at this
    have e : (-1 : Int64).toInt = -1 := by decide
    omega
theorem tdiv_100 (m : Nat) : (-(m : Int)).tdiv 100 = -((m / 100 : Nat) : Int) := by
  rw [Int.neg_tdiv]
  rfl

set_option maxHeartbeats 1000000 in
theorem m_getCharsI (l : Launch) (z : State) (H0 : Heap) (b : Nat) (v : Int) (x n : Nat) (f : Nat → Int32) (w : Bool) (k : Nat → Nat) (h1 : -2147483648 ≤ v) (h2 : v < 2147483648) (hx1 : nd v.natAbs + mn v ≤ x) (hx2 : x ≤ n) (hn9 : n < 2147483648) (hbf : gI z w .byte H0 b n f) (hd : sD z k (fun q => q = b) H0) : Met l yJ17_getChars (ws_ yJ17_getChars cJ17_getChars 7 (some .int)) { frames := 0, cells := 0, slots := 0, locals := 0 } (gPc z H0 [.int (iI v), .int (nI x), .ref b]) (gRi (fun q => q = b) H0 (fun r H1 => r = nI (x - (nd v.natAbs + mn v)) ∧ gI z w .byte H1 b n (ovl f (x - (nd v.natAbs + mn v)) (sdg v)))) 0 0 (fun q => q = b) := by
  refine g_start (by decide +kernel) (Nat.le_of_ble_eq_true rfl) ?_
  intro p e s m below meth c ls hx hb hr hlocks hml hown hname hts hwm hl
  have hown : s.vm.findClass "java/lang/Integer" = some m.cls := hown
  have hal : z.vm.Alike s.vm := hwm.alike
  have hCF : CallFix p m c cJ17_getChars 7 s [.int (iI v), .int (nI x), .ref b].toArray lw_all "java/lang/Integer" := ⟨hx, hb, hml, hown, hts⟩
  have hl : lv_has ls 7 [(0, .int (iI v)), (1, .int (nI x)), (2, .ref b)] := hl
  have hS : va_S (fun q => q = b) H0 H0 [] := va_S.rf
  refine lv_iload_n hx hb dJ17_getChars_0 rfl (lv_at hl 1 rfl) ?_
  refine lv_istore hx hb dJ17_getChars_1 hl (by decide) rfl (fun ls hl => ?_)
  have hl : lv_has ls 7 [(5, .int (nI x)), (0, .int (iI v)), (1, .int (nI x)), (2, .ref b)] := hl
  refine lv_iload_n hx hb dJ17_getChars_3 rfl (lv_at hl 1 rfl) ?_
  refine lv_if_ge (tgt := 11) hx hb dJ17_getChars_4 (by decide) (fun c_4 => ?_) (fun c_4 => ?_)
  · skip
    have hv : ¬ v < 0 := by
      rw [Int32.le_iff_toInt_le, iI_toInt h1 h2] at c_4
      exact Int.not_lt.mpr c_4
    refine lv_iconst (v := 0) hx hb dJ17_getChars_11 (by decide) ?_
    refine lv_istore hx hb dJ17_getChars_12 hl (by decide) rfl (fun ls hl => ?_)
    have hl : lv_has ls 7 [(6, .int 0), (5, .int (nI x)), (0, .int (iI v)), (1, .int (nI x)), (2, .ref b)] := hl
    refine lv_iload hx hb dJ17_getChars_14 (lv_at hl 0 rfl) ?_
    refine lv_if_ne (tgt := 22) hx hb dJ17_getChars_16 (by decide) (fun c_16 => absurd (by decide) c_16) (fun c_16 => ?_)
    refine lv_iload_n hx hb dJ17_getChars_19 rfl (lv_at hl 2 rfl) ?_
    refine lv_ineg hx hb dJ17_getChars_20 ?_
    refine g_topi (v := (iI (-(v.natAbs : Int)))) ?_ ?_
    · skip
      rw [iI_neg]
      congr 1
      omega
    refine lv_istore_n hx hb dJ17_getChars_21 rfl hl (by decide) rfl (fun ls hl => ?_)
    have hl : lv_has ls 7 [(0, .int (iI (-(v.natAbs : Int)))), (6, .int 0), (5, .int (nI x)), (1, .int (nI x)), (2, .ref b)] := hl
    have hmn : mn v = 0 := by unfold mn; rw [if_neg hv]
    replace hl : lv_has ls 7 [(0, .int (iI (-(v.natAbs : Int)))), (6, .int (nI (mn v))), (5, .int (nI x)), (1, .int (nI x)), (2, .ref b)] := by
      rw [hmn]
      exact hl
    have e_fit : f = (ovl f x []) := by
      exact (ovl_nil f x).symm
    replace hbf : gI z w .byte H0 b n (ovl f x []) := by
      rw [← e_fit]
      exact hbf
    clear e_fit
    have loop : ∀ (n_ : Nat) (u : Nat) (T : List Nat) (t : Nat), (u ≤ v.natAbs) → (dg v.natAbs = dg u ++ T) → (t + T.length = x) → (u) < n_ → ∀ (H_1 : Heap) (locs : List Loc), va_S (fun q => q = b) H0 H_1 locs → gI z w .byte H_1 b n (ovl f t T) → ∀ (ls : Array Slot), lv_has ls 7 [(0, .int (iI (-(u : Int)))), (6, .int (nI (mn v))), (5, .int (nI t)), (1, .int (nI x)), (2, .ref b)] → W p l e { frames := 0, cells := 0, slots := 0, locals := 0 } s m [.int (iI v), .int (nI x), .ref b].toArray below meth c H_1 locs 0 0 (MQ below (gRi (fun q => q = b) H0 (fun r H1 => r = nI (x - (nd v.natAbs + mn v)) ∧ gI z w .byte H1 b n (ovl f (x - (nd v.natAbs + mn v)) (sdg v)))) [.int (iI v), .int (nI x), .ref b].toArray s 0 0 (fun q => q = b)) (F0 m 22 ls []) := by
      intro n_
      induction n_ with
      | zero => intro u T t hu hT ht hm_; exact absurd hm_ (Nat.not_lt_zero _)
      | succ n_ ih_loop =>
        intro u T t hu hT ht hm_ H_1 locs hS hbf ls hl
        refine lv_iload_n hx hb dJ17_getChars_22 rfl (lv_at hl 0 rfl) ?_
        refine lv_bipush (v := -100) hx hb dJ17_getChars_23 (by decide) ?_
        refine lv_icmp_gt (tgt := 72) hx hb dJ17_getChars_25 (by decide) (fun c_25 => ?_) (fun c_25 => ?_)
        · skip
          have hu1 : u < 100 := by
            rw [Int32.lt_iff_toInt_lt, show (-100 : Int32) = iI (-100) from by decide, iI_toInt (by omega) (by omega), iI_toInt (by omega) (by omega)] at c_25
            omega
          have hnd : nd v.natAbs = nd u + T.length := by unfold nd; rw [hT, List.length_append]
          have hnp := nd_pos u
          refine lv_aload_n hx hb dJ17_getChars_72 rfl (lv_at hl 4 rfl) ?_
          refine lv_iinc (k := 2) (v := (nI (t - 1))) hx hb dJ17_getChars_73 hl rfl (by rw [show Int32.ofInt (-1) = iI (-1) from rfl, nI_iI, iI_add, nI_iI]; congr 1; omega) (by decide) rfl (fun ls hl => ?_)
          have hl : lv_has ls 7 [(5, .int (nI (t - 1))), (0, .int (iI (-(u : Int)))), (6, .int (nI (mn v))), (1, .int (nI x)), (2, .ref b)] := hl
          refine lv_iload hx hb dJ17_getChars_76 (lv_at hl 0 rfl) ?_
          refine gw_gets  hx hb hal hd.1.1 hS hown (hts _ q441) (fun _ h9 => h9) dJ17_getChars_78 ?_
          refine lv_iload_n hx hb dJ17_getChars_81 rfl (lv_at hl 1 rfl) ?_
          refine lv_ineg hx hb dJ17_getChars_82 ?_
          refine g_topi (v := (nI u)) ?_ ?_
          · skip
            rw [iI_neg, nI_iI]
            congr 1
            omega
          refine gw_bald hx hb hal (hd.cur hS).2.1.1 u (rfl) (by omega) (by omega) dJ17_getChars_83 ?_
          refine gw_bast (f := (ovl f t T)) hx hb hal hbf hS (rfl) (t - 1) (rfl) (by omega) (by omega) dJ17_getChars_84 (fun H_2 locs h_new hch hS => ?_)
          clear hch
          have hbf : gI z w .byte H_2 b n (upd (ovl f t T) (t - 1) (((kOnes u)).toInt8.toInt32)) := h_new
          have e_fit : (upd (ovl f t T) (t - 1) (((kOnes u)).toInt8.toInt32)) = (ovl f (t - 1) ((48 + u % 10) :: T)) := by
            exact ovl_put (by omega) (kO8 (by omega))
          replace hbf : gI z w .byte H_2 b n (ovl f (t - 1) ((48 + u % 10) :: T)) := by
            rw [← e_fit]
            exact hbf
          clear e_fit
          refine lv_iload_n hx hb dJ17_getChars_85 rfl (lv_at hl 1 rfl) ?_
          refine lv_bipush (v := -9) hx hb dJ17_getChars_86 (by decide) ?_
          refine lv_icmp_ge (tgt := 104) hx hb dJ17_getChars_88 (by decide) (fun c_88 => ?_) (fun c_88 => ?_)
          · skip
            have hu9 : u < 10 := by
              rw [Int32.le_iff_toInt_le, show (-9 : Int32) = iI (-9) from by decide, iI_toInt (by omega) (by omega), iI_toInt (by omega) (by omega)] at c_88
              omega
            have hn1 := nd_lt hu9
            have e_fit : (ovl f (t - 1) ((48 + u % 10) :: T)) = (ovl f (t - 1) (dg v.natAbs)) := by
              rw [hT, dg_lt hu9, show u % 10 = u by omega]
              rfl
            replace hbf : gI z w .byte H_2 b n (ovl f (t - 1) (dg v.natAbs)) := by
              rw [← e_fit]
              exact hbf
            clear e_fit
            refine lv_iload hx hb dJ17_getChars_104 (lv_at hl 2 rfl) ?_
            refine lv_if_eq (tgt := 118) hx hb dJ17_getChars_106 (by decide) (fun c_106 => ?_) (fun c_106 => ?_)
            · skip
              have hm0 : mn v = 0 := by
                have q := congrArg Int32.toInt c_106
                have := mn_b v
                rw [nI_toInt (by omega)] at q
                have e0 : (0 : Int32).toInt = 0 := by decide
                omega
              have hv0 : ¬ v < 0 := by unfold mn at hm0; split at hm0 <;> omega
              refine lv_iload hx hb dJ17_getChars_118 (lv_at hl 0 rfl) ?_
              refine g_iret hx hb hr hlocks hS (Nat.le_of_ble_eq_true rfl) (Nat.le_of_ble_eq_true rfl) ?_ dJ17_getChars_120
              rw [show x - (nd v.natAbs + mn v) = t - 1 by omega]
              exact ⟨rfl, by rw [show sdg v = dg v.natAbs by unfold sdg; rw [if_neg hv0]; rfl]; exact hbf⟩
            · skip
              have hm0 : mn v = 1 := by
                have := mn_b v
                refine Decidable.byContradiction fun q => c_106 ?_
                rw [show mn v = 0 by omega]
                rfl
              have hv0 : v < 0 := by unfold mn at hm0; split at hm0 <;> omega
              refine lv_aload_n hx hb dJ17_getChars_109 rfl (lv_at hl 4 rfl) ?_
              refine lv_iinc (k := 0) (v := (nI (t - 1 - 1))) hx hb dJ17_getChars_110 hl rfl (by rw [show Int32.ofInt (-1) = iI (-1) from rfl, nI_iI, iI_add, nI_iI]; congr 1; omega) (by decide) rfl (fun ls hl => ?_)
              have hl : lv_has ls 7 [(5, .int (nI (t - 1 - 1))), (0, .int (iI (-(u : Int)))), (6, .int (nI (mn v))), (1, .int (nI x)), (2, .ref b)] := hl
              refine lv_iload hx hb dJ17_getChars_113 (lv_at hl 0 rfl) ?_
              refine lv_bipush (v := 45) hx hb dJ17_getChars_115 (by decide) ?_
              refine gw_bast (f := (ovl f (t - 1) (dg v.natAbs))) hx hb hal hbf hS (rfl) (t - 1 - 1) (rfl) (by omega) (by omega) dJ17_getChars_117 (fun H_3 locs h_new hch hS => ?_)
              clear hch
              have hbf : gI z w .byte H_3 b n (upd (ovl f (t - 1) (dg v.natAbs)) (t - 1 - 1) ((45 : Int32).toInt8.toInt32)) := h_new
              refine lv_iload hx hb dJ17_getChars_118 (lv_at hl 0 rfl) ?_
              refine g_iret hx hb hr hlocks hS (Nat.le_of_ble_eq_true rfl) (Nat.le_of_ble_eq_true rfl) ?_ dJ17_getChars_120
              rw [ovl_put (p := t - 1) (q := t - 1 - 1) (d := 45) (by omega) (by decide)] at hbf
              rw [show x - (nd v.natAbs + mn v) = t - 1 - 1 by omega]
              exact ⟨rfl, by rw [show sdg v = 45 :: dg v.natAbs by unfold sdg; rw [if_pos hv0]; rfl]; exact hbf⟩
          · skip
            have hu9 : 10 ≤ u := by
              refine Decidable.byContradiction fun q => c_88 ?_
              rw [Int32.le_iff_toInt_le, show (-9 : Int32) = iI (-9) from by decide, iI_toInt (by omega) (by omega), iI_toInt (by omega) (by omega)]
              omega
            have hn1 : nd u = 2 := by rw [nd_ge hu9, nd_lt (by omega)]
            refine lv_aload_n hx hb dJ17_getChars_91 rfl (lv_at hl 4 rfl) ?_
            refine lv_iinc (k := 0) (v := (nI (t - 1 - 1))) hx hb dJ17_getChars_92 hl rfl (by rw [show Int32.ofInt (-1) = iI (-1) from rfl, nI_iI, iI_add, nI_iI]; congr 1; omega) (by decide) rfl (fun ls hl => ?_)
            have hl : lv_has ls 7 [(5, .int (nI (t - 1 - 1))), (0, .int (iI (-(u : Int)))), (6, .int (nI (mn v))), (1, .int (nI x)), (2, .ref b)] := hl
            refine lv_iload hx hb dJ17_getChars_95 (lv_at hl 0 rfl) ?_
            refine gw_gets  hx hb hal hd.1.2 hS hown (hts _ q442) (fun _ h9 => h9) dJ17_getChars_97 ?_
            refine lv_iload_n hx hb dJ17_getChars_100 rfl (lv_at hl 1 rfl) ?_
            refine lv_ineg hx hb dJ17_getChars_101 ?_
            refine g_topi (v := (nI u)) ?_ ?_
            · skip
              rw [iI_neg, nI_iI]
              congr 1
              omega
            refine gw_bald hx hb hal (hd.cur hS).2.1.2 u (rfl) (by omega) (by omega) dJ17_getChars_102 ?_
            refine gw_bast (f := (ovl f (t - 1) ((48 + u % 10) :: T))) hx hb hal hbf hS (rfl) (t - 1 - 1) (rfl) (by omega) (by omega) dJ17_getChars_103 (fun H_4 locs h_new hch hS => ?_)
            clear hch
            have hbf : gI z w .byte H_4 b n (upd (ovl f (t - 1) ((48 + u % 10) :: T)) (t - 1 - 1) (((kTens u)).toInt8.toInt32)) := h_new
            have e_fit : (upd (ovl f (t - 1) ((48 + u % 10) :: T)) (t - 1 - 1) (((kTens u)).toInt8.toInt32)) = (ovl f (t - 1 - 1) (dg v.natAbs)) := by
              rw [ovl_put (p := t - 1) (q := t - 1 - 1) (d := 48 + u / 10) (by omega) (kT8 (by omega)), hT, dg_ge hu9, dg_lt (by omega)]
              rfl
            replace hbf : gI z w .byte H_4 b n (ovl f (t - 1 - 1) (dg v.natAbs)) := by
              rw [← e_fit]
              exact hbf
            clear e_fit
            refine lv_iload hx hb dJ17_getChars_104 (lv_at hl 2 rfl) ?_
            refine lv_if_eq (tgt := 118) hx hb dJ17_getChars_106 (by decide) (fun c_106 => ?_) (fun c_106 => ?_)
            · skip
              have hm0 : mn v = 0 := by
                have q := congrArg Int32.toInt c_106
                have := mn_b v
                rw [nI_toInt (by omega)] at q
                have e0 : (0 : Int32).toInt = 0 := by decide
                omega
              have hv0 : ¬ v < 0 := by unfold mn at hm0; split at hm0 <;> omega
              refine lv_iload hx hb dJ17_getChars_118 (lv_at hl 0 rfl) ?_
              refine g_iret hx hb hr hlocks hS (Nat.le_of_ble_eq_true rfl) (Nat.le_of_ble_eq_true rfl) ?_ dJ17_getChars_120
              rw [show x - (nd v.natAbs + mn v) = t - 1 - 1 by omega]
              exact ⟨rfl, by rw [show sdg v = dg v.natAbs by unfold sdg; rw [if_neg hv0]; rfl]; exact hbf⟩
            · skip
              have hm0 : mn v = 1 := by
                have := mn_b v
                refine Decidable.byContradiction fun q => c_106 ?_
                rw [show mn v = 0 by omega]
                rfl
              have hv0 : v < 0 := by unfold mn at hm0; split at hm0 <;> omega
              refine lv_aload_n hx hb dJ17_getChars_109 rfl (lv_at hl 4 rfl) ?_
              refine lv_iinc (k := 0) (v := (nI (t - 1 - 1 - 1))) hx hb dJ17_getChars_110 hl rfl (by rw [show Int32.ofInt (-1) = iI (-1) from rfl, nI_iI, iI_add, nI_iI]; congr 1; omega) (by decide) rfl (fun ls hl => ?_)
              have hl : lv_has ls 7 [(5, .int (nI (t - 1 - 1 - 1))), (0, .int (iI (-(u : Int)))), (6, .int (nI (mn v))), (1, .int (nI x)), (2, .ref b)] := hl
              refine lv_iload hx hb dJ17_getChars_113 (lv_at hl 0 rfl) ?_
              refine lv_bipush (v := 45) hx hb dJ17_getChars_115 (by decide) ?_
              refine gw_bast (f := (ovl f (t - 1 - 1) (dg v.natAbs))) hx hb hal hbf hS (rfl) (t - 1 - 1 - 1) (rfl) (by omega) (by omega) dJ17_getChars_117 (fun H_5 locs h_new hch hS => ?_)
              clear hch
              have hbf : gI z w .byte H_5 b n (upd (ovl f (t - 1 - 1) (dg v.natAbs)) (t - 1 - 1 - 1) ((45 : Int32).toInt8.toInt32)) := h_new
              refine lv_iload hx hb dJ17_getChars_118 (lv_at hl 0 rfl) ?_
              refine g_iret hx hb hr hlocks hS (Nat.le_of_ble_eq_true rfl) (Nat.le_of_ble_eq_true rfl) ?_ dJ17_getChars_120
              rw [ovl_put (p := t - 1 - 1) (q := t - 1 - 1 - 1) (d := 45) (by omega) (by decide)] at hbf
              rw [show x - (nd v.natAbs + mn v) = t - 1 - 1 - 1 by omega]
              exact ⟨rfl, by rw [show sdg v = 45 :: dg v.natAbs by unfold sdg; rw [if_pos hv0]; rfl]; exact hbf⟩
        · skip
          have hu1 : 100 ≤ u := by
            refine Decidable.byContradiction fun q => c_25 ?_
            rw [Int32.lt_iff_toInt_lt, show (-100 : Int32) = iI (-100) from by decide, iI_toInt (by omega) (by omega), iI_toInt (by omega) (by omega)]
            omega
          have hnd : nd v.natAbs = nd u + T.length := by unfold nd; rw [hT, List.length_append]
          have hn2 := nd_two hu1
          have hnp := nd_pos (u / 100)
          refine lv_iload_n hx hb dJ17_getChars_28 rfl (lv_at hl 0 rfl) ?_
          refine lv_bipush (v := 100) hx hb dJ17_getChars_29 (by decide) ?_
          refine lv_idiv hx hb dJ17_getChars_31 (by decide) ?_
          refine g_topi (v := (iI (-((u / 100 : Nat) : Int)))) ?_ ?_
          · skip
            rw [show (100 : Int32) = iI 100 from by decide, iI_div (by omega) (by omega) (by omega) (by omega), tdiv_100]
          refine lv_istore_n hx hb dJ17_getChars_32 rfl hl (by decide) rfl (fun ls hl => ?_)
          have hl : lv_has ls 7 [(3, .int (iI (-((u / 100 : Nat) : Int)))), (0, .int (iI (-(u : Int)))), (6, .int (nI (mn v))), (5, .int (nI t)), (1, .int (nI x)), (2, .ref b)] := hl
          refine lv_iload_n hx hb dJ17_getChars_33 rfl (lv_at hl 0 rfl) ?_
          refine lv_bipush (v := 100) hx hb dJ17_getChars_34 (by decide) ?_
          refine lv_imul hx hb dJ17_getChars_36 ?_
          refine lv_iload_n hx hb dJ17_getChars_37 rfl (lv_at hl 1 rfl) ?_
          refine lv_isub hx hb dJ17_getChars_38 ?_
          refine g_topi (v := (nI (u % 100))) ?_ ?_
          · skip
            rw [show (100 : Int32) = iI 100 from by decide, iI_mul, iI_sub, nI_iI]
            congr 1
            omega
          refine lv_istore hx hb dJ17_getChars_39 hl (by decide) rfl (fun ls hl => ?_)
          have hl : lv_has ls 7 [(4, .int (nI (u % 100))), (3, .int (iI (-((u / 100 : Nat) : Int)))), (0, .int (iI (-(u : Int)))), (6, .int (nI (mn v))), (5, .int (nI t)), (1, .int (nI x)), (2, .ref b)] := hl
          refine lv_iload_n hx hb dJ17_getChars_41 rfl (lv_at hl 1 rfl) ?_
          refine lv_istore_n hx hb dJ17_getChars_42 rfl hl (by decide) rfl (fun ls hl => ?_)
          have hl : lv_has ls 7 [(0, .int (iI (-((u / 100 : Nat) : Int)))), (4, .int (nI (u % 100))), (3, .int (iI (-((u / 100 : Nat) : Int)))), (6, .int (nI (mn v))), (5, .int (nI t)), (1, .int (nI x)), (2, .ref b)] := hl
          refine lv_aload_n hx hb dJ17_getChars_43 rfl (lv_at hl 6 rfl) ?_
          refine lv_iinc (k := 4) (v := (nI (t - 1))) hx hb dJ17_getChars_44 hl rfl (by rw [show Int32.ofInt (-1) = iI (-1) from rfl, nI_iI, iI_add, nI_iI]; congr 1; omega) (by decide) rfl (fun ls hl => ?_)
          have hl : lv_has ls 7 [(5, .int (nI (t - 1))), (0, .int (iI (-((u / 100 : Nat) : Int)))), (4, .int (nI (u % 100))), (3, .int (iI (-((u / 100 : Nat) : Int)))), (6, .int (nI (mn v))), (1, .int (nI x)), (2, .ref b)] := hl
          refine lv_iload hx hb dJ17_getChars_47 (lv_at hl 0 rfl) ?_
          refine gw_gets  hx hb hal hd.1.1 hS hown (hts _ q441) (fun _ h9 => h9) dJ17_getChars_49 ?_
          refine lv_iload hx hb dJ17_getChars_52 (lv_at hl 2 rfl) ?_
          refine gw_bald hx hb hal (hd.cur hS).2.1.1 (u % 100) (rfl) (by omega) (by omega) dJ17_getChars_54 ?_
          refine gw_bast (f := (ovl f t T)) hx hb hal hbf hS (rfl) (t - 1) (rfl) (by omega) (by omega) dJ17_getChars_55 (fun H_6 locs h_new hch hS => ?_)
          clear hch
          have hbf : gI z w .byte H_6 b n (upd (ovl f t T) (t - 1) (((kOnes (u % 100))).toInt8.toInt32)) := h_new
          refine lv_aload_n hx hb dJ17_getChars_56 rfl (lv_at hl 6 rfl) ?_
          refine lv_iinc (k := 0) (v := (nI (t - 1 - 1))) hx hb dJ17_getChars_57 hl rfl (by rw [show Int32.ofInt (-1) = iI (-1) from rfl, nI_iI, iI_add, nI_iI]; congr 1; omega) (by decide) rfl (fun ls hl => ?_)
          have hl : lv_has ls 7 [(5, .int (nI (t - 1 - 1))), (0, .int (iI (-((u / 100 : Nat) : Int)))), (4, .int (nI (u % 100))), (3, .int (iI (-((u / 100 : Nat) : Int)))), (6, .int (nI (mn v))), (1, .int (nI x)), (2, .ref b)] := hl
          refine lv_iload hx hb dJ17_getChars_60 (lv_at hl 0 rfl) ?_
          refine gw_gets  hx hb hal hd.1.2 hS hown (hts _ q442) (fun _ h9 => h9) dJ17_getChars_62 ?_
          refine lv_iload hx hb dJ17_getChars_65 (lv_at hl 2 rfl) ?_
          refine gw_bald hx hb hal (hd.cur hS).2.1.2 (u % 100) (rfl) (by omega) (by omega) dJ17_getChars_67 ?_
          refine gw_bast (f := (upd (ovl f t T) (t - 1) (((kOnes (u % 100))).toInt8.toInt32))) hx hb hal hbf hS (rfl) (t - 1 - 1) (rfl) (by omega) (by omega) dJ17_getChars_68 (fun H_7 locs h_new hch hS => ?_)
          clear hch
          have hbf : gI z w .byte H_7 b n (upd (upd (ovl f t T) (t - 1) (((kOnes (u % 100))).toInt8.toInt32)) (t - 1 - 1) (((kTens (u % 100))).toInt8.toInt32)) := h_new
          have e_fit : (upd (upd (ovl f t T) (t - 1) (((kOnes (u % 100))).toInt8.toInt32)) (t - 1 - 1) (((kTens (u % 100))).toInt8.toInt32)) = (ovl f (t - 1 - 1) ((48 + u % 100 / 10) :: (48 + u % 100 % 10) :: T)) := by
            rw [ovl_put (p := t) (q := t - 1) (d := 48 + u % 100 % 10) (by omega) (kO8 (by omega)), ovl_put (p := t - 1) (q := t - 1 - 1) (d := 48 + u % 100 / 10) (by omega) (kT8 (by omega))]
          replace hbf : gI z w .byte H_7 b n (ovl f (t - 1 - 1) ((48 + u % 100 / 10) :: (48 + u % 100 % 10) :: T)) := by
            rw [← e_fit]
            exact hbf
          clear e_fit
          refine lv_goto (tgt := 22) hx hb dJ17_getChars_69 (by decide) ?_
          exact ih_loop (u / 100) ((48 + u % 100 / 10) :: (48 + u % 100 % 10) :: T) (t - 1 - 1) (by omega) (by rw [hT, dg_two hu1, List.append_assoc]; rfl) (by simp only [List.length_cons]; omega) (by omega) H_7 _ hS hbf ls (lv_sub hl [1, 4, 0, 5, 6] rfl)
    exact loop _ v.natAbs [] x (Nat.le_refl _) ((List.append_nil _).symm) rfl (Nat.lt_succ_self _) H0 _ hS hbf ls (lv_sub hl [0, 1, 2, 3, 4] rfl)
  · skip
    have hv : v < 0 := by
      refine Decidable.byContradiction fun q => c_4 ?_
      rw [Int32.le_iff_toInt_le, iI_toInt h1 h2]
      exact Int.not_lt.mp q
    refine lv_iconst (v := 1) hx hb dJ17_getChars_7 (by decide) ?_
    refine lv_goto (tgt := 12) hx hb dJ17_getChars_8 (by decide) ?_
    refine lv_istore hx hb dJ17_getChars_12 hl (by decide) rfl (fun ls hl => ?_)
    have hl : lv_has ls 7 [(6, .int 1), (5, .int (nI x)), (0, .int (iI v)), (1, .int (nI x)), (2, .ref b)] := hl
    refine lv_iload hx hb dJ17_getChars_14 (lv_at hl 0 rfl) ?_
    refine lv_if_ne (tgt := 22) hx hb dJ17_getChars_16 (by decide) (fun c_16 => ?_) (fun c_16 => absurd c_16 (by decide))
    have hmn : mn v = 1 := by unfold mn; rw [if_pos hv]
    replace hl : lv_has ls 7 [(6, .int (nI (mn v))), (5, .int (nI x)), (0, .int (iI (-(v.natAbs : Int)))), (1, .int (nI x)), (2, .ref b)] := by
      rw [hmn, show -(v.natAbs : Int) = v by omega]
      exact hl
    have e_fit : f = (ovl f x []) := by
      exact (ovl_nil f x).symm
    replace hbf : gI z w .byte H0 b n (ovl f x []) := by
      rw [← e_fit]
      exact hbf
    clear e_fit
    have loop : ∀ (n_ : Nat) (u : Nat) (T : List Nat) (t : Nat), (u ≤ v.natAbs) → (dg v.natAbs = dg u ++ T) → (t + T.length = x) → (u) < n_ → ∀ (H_8 : Heap) (locs : List Loc), va_S (fun q => q = b) H0 H_8 locs → gI z w .byte H_8 b n (ovl f t T) → ∀ (ls : Array Slot), lv_has ls 7 [(6, .int (nI (mn v))), (5, .int (nI t)), (0, .int (iI (-(u : Int)))), (1, .int (nI x)), (2, .ref b)] → W p l e { frames := 0, cells := 0, slots := 0, locals := 0 } s m [.int (iI v), .int (nI x), .ref b].toArray below meth c H_8 locs 0 0 (MQ below (gRi (fun q => q = b) H0 (fun r H1 => r = nI (x - (nd v.natAbs + mn v)) ∧ gI z w .byte H1 b n (ovl f (x - (nd v.natAbs + mn v)) (sdg v)))) [.int (iI v), .int (nI x), .ref b].toArray s 0 0 (fun q => q = b)) (F0 m 22 ls []) := by
      intro n_
      induction n_ with
      | zero => intro u T t hu hT ht hm_; exact absurd hm_ (Nat.not_lt_zero _)
      | succ n_ ih_loop =>
        intro u T t hu hT ht hm_ H_8 locs hS hbf ls hl
        refine lv_iload_n hx hb dJ17_getChars_22 rfl (lv_at hl 2 rfl) ?_
        refine lv_bipush (v := -100) hx hb dJ17_getChars_23 (by decide) ?_
        refine lv_icmp_gt (tgt := 72) hx hb dJ17_getChars_25 (by decide) (fun c_25 => ?_) (fun c_25 => ?_)
        · skip
          have hu1 : u < 100 := by
            rw [Int32.lt_iff_toInt_lt, show (-100 : Int32) = iI (-100) from by decide, iI_toInt (by omega) (by omega), iI_toInt (by omega) (by omega)] at c_25
            omega
          have hnd : nd v.natAbs = nd u + T.length := by unfold nd; rw [hT, List.length_append]
          have hnp := nd_pos u
          refine lv_aload_n hx hb dJ17_getChars_72 rfl (lv_at hl 4 rfl) ?_
          refine lv_iinc (k := 1) (v := (nI (t - 1))) hx hb dJ17_getChars_73 hl rfl (by rw [show Int32.ofInt (-1) = iI (-1) from rfl, nI_iI, iI_add, nI_iI]; congr 1; omega) (by decide) rfl (fun ls hl => ?_)
          have hl : lv_has ls 7 [(5, .int (nI (t - 1))), (6, .int (nI (mn v))), (0, .int (iI (-(u : Int)))), (1, .int (nI x)), (2, .ref b)] := hl
          refine lv_iload hx hb dJ17_getChars_76 (lv_at hl 0 rfl) ?_
          refine gw_gets  hx hb hal hd.1.1 hS hown (hts _ q441) (fun _ h9 => h9) dJ17_getChars_78 ?_
          refine lv_iload_n hx hb dJ17_getChars_81 rfl (lv_at hl 2 rfl) ?_
          refine lv_ineg hx hb dJ17_getChars_82 ?_
          refine g_topi (v := (nI u)) ?_ ?_
          · skip
            rw [iI_neg, nI_iI]
            congr 1
            omega
          refine gw_bald hx hb hal (hd.cur hS).2.1.1 u (rfl) (by omega) (by omega) dJ17_getChars_83 ?_
          refine gw_bast (f := (ovl f t T)) hx hb hal hbf hS (rfl) (t - 1) (rfl) (by omega) (by omega) dJ17_getChars_84 (fun H_9 locs h_new hch hS => ?_)
          clear hch
          have hbf : gI z w .byte H_9 b n (upd (ovl f t T) (t - 1) (((kOnes u)).toInt8.toInt32)) := h_new
          have e_fit : (upd (ovl f t T) (t - 1) (((kOnes u)).toInt8.toInt32)) = (ovl f (t - 1) ((48 + u % 10) :: T)) := by
            exact ovl_put (by omega) (kO8 (by omega))
          replace hbf : gI z w .byte H_9 b n (ovl f (t - 1) ((48 + u % 10) :: T)) := by
            rw [← e_fit]
            exact hbf
          clear e_fit
          refine lv_iload_n hx hb dJ17_getChars_85 rfl (lv_at hl 2 rfl) ?_
          refine lv_bipush (v := -9) hx hb dJ17_getChars_86 (by decide) ?_
          refine lv_icmp_ge (tgt := 104) hx hb dJ17_getChars_88 (by decide) (fun c_88 => ?_) (fun c_88 => ?_)
          · skip
            have hu9 : u < 10 := by
              rw [Int32.le_iff_toInt_le, show (-9 : Int32) = iI (-9) from by decide, iI_toInt (by omega) (by omega), iI_toInt (by omega) (by omega)] at c_88
              omega
            have hn1 := nd_lt hu9
            have e_fit : (ovl f (t - 1) ((48 + u % 10) :: T)) = (ovl f (t - 1) (dg v.natAbs)) := by
              rw [hT, dg_lt hu9, show u % 10 = u by omega]
              rfl
            replace hbf : gI z w .byte H_9 b n (ovl f (t - 1) (dg v.natAbs)) := by
              rw [← e_fit]
              exact hbf
            clear e_fit
            refine lv_iload hx hb dJ17_getChars_104 (lv_at hl 1 rfl) ?_
            refine lv_if_eq (tgt := 118) hx hb dJ17_getChars_106 (by decide) (fun c_106 => ?_) (fun c_106 => ?_)
            · skip
              have hm0 : mn v = 0 := by
                have q := congrArg Int32.toInt c_106
                have := mn_b v
                rw [nI_toInt (by omega)] at q
                have e0 : (0 : Int32).toInt = 0 := by decide
                omega
              have hv0 : ¬ v < 0 := by unfold mn at hm0; split at hm0 <;> omega
              refine lv_iload hx hb dJ17_getChars_118 (lv_at hl 0 rfl) ?_
              refine g_iret hx hb hr hlocks hS (Nat.le_of_ble_eq_true rfl) (Nat.le_of_ble_eq_true rfl) ?_ dJ17_getChars_120
              rw [show x - (nd v.natAbs + mn v) = t - 1 by omega]
              exact ⟨rfl, by rw [show sdg v = dg v.natAbs by unfold sdg; rw [if_neg hv0]; rfl]; exact hbf⟩
            · skip
              have hm0 : mn v = 1 := by
                have := mn_b v
                refine Decidable.byContradiction fun q => c_106 ?_
                rw [show mn v = 0 by omega]
                rfl
              have hv0 : v < 0 := by unfold mn at hm0; split at hm0 <;> omega
              refine lv_aload_n hx hb dJ17_getChars_109 rfl (lv_at hl 4 rfl) ?_
              refine lv_iinc (k := 0) (v := (nI (t - 1 - 1))) hx hb dJ17_getChars_110 hl rfl (by rw [show Int32.ofInt (-1) = iI (-1) from rfl, nI_iI, iI_add, nI_iI]; congr 1; omega) (by decide) rfl (fun ls hl => ?_)
              have hl : lv_has ls 7 [(5, .int (nI (t - 1 - 1))), (6, .int (nI (mn v))), (0, .int (iI (-(u : Int)))), (1, .int (nI x)), (2, .ref b)] := hl
              refine lv_iload hx hb dJ17_getChars_113 (lv_at hl 0 rfl) ?_
              refine lv_bipush (v := 45) hx hb dJ17_getChars_115 (by decide) ?_
              refine gw_bast (f := (ovl f (t - 1) (dg v.natAbs))) hx hb hal hbf hS (rfl) (t - 1 - 1) (rfl) (by omega) (by omega) dJ17_getChars_117 (fun H_10 locs h_new hch hS => ?_)
              clear hch
              have hbf : gI z w .byte H_10 b n (upd (ovl f (t - 1) (dg v.natAbs)) (t - 1 - 1) ((45 : Int32).toInt8.toInt32)) := h_new
              refine lv_iload hx hb dJ17_getChars_118 (lv_at hl 0 rfl) ?_
              refine g_iret hx hb hr hlocks hS (Nat.le_of_ble_eq_true rfl) (Nat.le_of_ble_eq_true rfl) ?_ dJ17_getChars_120
              rw [ovl_put (p := t - 1) (q := t - 1 - 1) (d := 45) (by omega) (by decide)] at hbf
              rw [show x - (nd v.natAbs + mn v) = t - 1 - 1 by omega]
              exact ⟨rfl, by rw [show sdg v = 45 :: dg v.natAbs by unfold sdg; rw [if_pos hv0]; rfl]; exact hbf⟩
          · skip
            have hu9 : 10 ≤ u := by
              refine Decidable.byContradiction fun q => c_88 ?_
              rw [Int32.le_iff_toInt_le, show (-9 : Int32) = iI (-9) from by decide, iI_toInt (by omega) (by omega), iI_toInt (by omega) (by omega)]
              omega
            have hn1 : nd u = 2 := by rw [nd_ge hu9, nd_lt (by omega)]
            refine lv_aload_n hx hb dJ17_getChars_91 rfl (lv_at hl 4 rfl) ?_
            refine lv_iinc (k := 0) (v := (nI (t - 1 - 1))) hx hb dJ17_getChars_92 hl rfl (by rw [show Int32.ofInt (-1) = iI (-1) from rfl, nI_iI, iI_add, nI_iI]; congr 1; omega) (by decide) rfl (fun ls hl => ?_)
            have hl : lv_has ls 7 [(5, .int (nI (t - 1 - 1))), (6, .int (nI (mn v))), (0, .int (iI (-(u : Int)))), (1, .int (nI x)), (2, .ref b)] := hl
            refine lv_iload hx hb dJ17_getChars_95 (lv_at hl 0 rfl) ?_
            refine gw_gets  hx hb hal hd.1.2 hS hown (hts _ q442) (fun _ h9 => h9) dJ17_getChars_97 ?_
            refine lv_iload_n hx hb dJ17_getChars_100 rfl (lv_at hl 2 rfl) ?_
            refine lv_ineg hx hb dJ17_getChars_101 ?_
            refine g_topi (v := (nI u)) ?_ ?_
            · skip
              rw [iI_neg, nI_iI]
              congr 1
              omega
            refine gw_bald hx hb hal (hd.cur hS).2.1.2 u (rfl) (by omega) (by omega) dJ17_getChars_102 ?_
            refine gw_bast (f := (ovl f (t - 1) ((48 + u % 10) :: T))) hx hb hal hbf hS (rfl) (t - 1 - 1) (rfl) (by omega) (by omega) dJ17_getChars_103 (fun H_11 locs h_new hch hS => ?_)
            clear hch
            have hbf : gI z w .byte H_11 b n (upd (ovl f (t - 1) ((48 + u % 10) :: T)) (t - 1 - 1) (((kTens u)).toInt8.toInt32)) := h_new
            have e_fit : (upd (ovl f (t - 1) ((48 + u % 10) :: T)) (t - 1 - 1) (((kTens u)).toInt8.toInt32)) = (ovl f (t - 1 - 1) (dg v.natAbs)) := by
              rw [ovl_put (p := t - 1) (q := t - 1 - 1) (d := 48 + u / 10) (by omega) (kT8 (by omega)), hT, dg_ge hu9, dg_lt (by omega)]
              rfl
            replace hbf : gI z w .byte H_11 b n (ovl f (t - 1 - 1) (dg v.natAbs)) := by
              rw [← e_fit]
              exact hbf
            clear e_fit
            refine lv_iload hx hb dJ17_getChars_104 (lv_at hl 1 rfl) ?_
            refine lv_if_eq (tgt := 118) hx hb dJ17_getChars_106 (by decide) (fun c_106 => ?_) (fun c_106 => ?_)
            · skip
              have hm0 : mn v = 0 := by
                have q := congrArg Int32.toInt c_106
                have := mn_b v
                rw [nI_toInt (by omega)] at q
                have e0 : (0 : Int32).toInt = 0 := by decide
                omega
              have hv0 : ¬ v < 0 := by unfold mn at hm0; split at hm0 <;> omega
              refine lv_iload hx hb dJ17_getChars_118 (lv_at hl 0 rfl) ?_
              refine g_iret hx hb hr hlocks hS (Nat.le_of_ble_eq_true rfl) (Nat.le_of_ble_eq_true rfl) ?_ dJ17_getChars_120
              rw [show x - (nd v.natAbs + mn v) = t - 1 - 1 by omega]
              exact ⟨rfl, by rw [show sdg v = dg v.natAbs by unfold sdg; rw [if_neg hv0]; rfl]; exact hbf⟩
            · skip
              have hm0 : mn v = 1 := by
                have := mn_b v
                refine Decidable.byContradiction fun q => c_106 ?_
                rw [show mn v = 0 by omega]
                rfl
              have hv0 : v < 0 := by unfold mn at hm0; split at hm0 <;> omega
              refine lv_aload_n hx hb dJ17_getChars_109 rfl (lv_at hl 4 rfl) ?_
              refine lv_iinc (k := 0) (v := (nI (t - 1 - 1 - 1))) hx hb dJ17_getChars_110 hl rfl (by rw [show Int32.ofInt (-1) = iI (-1) from rfl, nI_iI, iI_add, nI_iI]; congr 1; omega) (by decide) rfl (fun ls hl => ?_)
              have hl : lv_has ls 7 [(5, .int (nI (t - 1 - 1 - 1))), (6, .int (nI (mn v))), (0, .int (iI (-(u : Int)))), (1, .int (nI x)), (2, .ref b)] := hl
              refine lv_iload hx hb dJ17_getChars_113 (lv_at hl 0 rfl) ?_
              refine lv_bipush (v := 45) hx hb dJ17_getChars_115 (by decide) ?_
              refine gw_bast (f := (ovl f (t - 1 - 1) (dg v.natAbs))) hx hb hal hbf hS (rfl) (t - 1 - 1 - 1) (rfl) (by omega) (by omega) dJ17_getChars_117 (fun H_12 locs h_new hch hS => ?_)
              clear hch
              have hbf : gI z w .byte H_12 b n (upd (ovl f (t - 1 - 1) (dg v.natAbs)) (t - 1 - 1 - 1) ((45 : Int32).toInt8.toInt32)) := h_new
              refine lv_iload hx hb dJ17_getChars_118 (lv_at hl 0 rfl) ?_
              refine g_iret hx hb hr hlocks hS (Nat.le_of_ble_eq_true rfl) (Nat.le_of_ble_eq_true rfl) ?_ dJ17_getChars_120
              rw [ovl_put (p := t - 1 - 1) (q := t - 1 - 1 - 1) (d := 45) (by omega) (by decide)] at hbf
              rw [show x - (nd v.natAbs + mn v) = t - 1 - 1 - 1 by omega]
              exact ⟨rfl, by rw [show sdg v = 45 :: dg v.natAbs by unfold sdg; rw [if_pos hv0]; rfl]; exact hbf⟩
        · skip
          have hu1 : 100 ≤ u := by
            refine Decidable.byContradiction fun q => c_25 ?_
            rw [Int32.lt_iff_toInt_lt, show (-100 : Int32) = iI (-100) from by decide, iI_toInt (by omega) (by omega), iI_toInt (by omega) (by omega)]
            omega
          have hnd : nd v.natAbs = nd u + T.length := by unfold nd; rw [hT, List.length_append]
          have hn2 := nd_two hu1
          have hnp := nd_pos (u / 100)
          refine lv_iload_n hx hb dJ17_getChars_28 rfl (lv_at hl 2 rfl) ?_
          refine lv_bipush (v := 100) hx hb dJ17_getChars_29 (by decide) ?_
          refine lv_idiv hx hb dJ17_getChars_31 (by decide) ?_
          refine g_topi (v := (iI (-((u / 100 : Nat) : Int)))) ?_ ?_
          · skip
            rw [show (100 : Int32) = iI 100 from by decide, iI_div (by omega) (by omega) (by omega) (by omega), tdiv_100]
          refine lv_istore_n hx hb dJ17_getChars_32 rfl hl (by decide) rfl (fun ls hl => ?_)
          have hl : lv_has ls 7 [(3, .int (iI (-((u / 100 : Nat) : Int)))), (6, .int (nI (mn v))), (5, .int (nI t)), (0, .int (iI (-(u : Int)))), (1, .int (nI x)), (2, .ref b)] := hl
          refine lv_iload_n hx hb dJ17_getChars_33 rfl (lv_at hl 0 rfl) ?_
          refine lv_bipush (v := 100) hx hb dJ17_getChars_34 (by decide) ?_
          refine lv_imul hx hb dJ17_getChars_36 ?_
          refine lv_iload_n hx hb dJ17_getChars_37 rfl (lv_at hl 3 rfl) ?_
          refine lv_isub hx hb dJ17_getChars_38 ?_
          refine g_topi (v := (nI (u % 100))) ?_ ?_
          · skip
            rw [show (100 : Int32) = iI 100 from by decide, iI_mul, iI_sub, nI_iI]
            congr 1
            omega
          refine lv_istore hx hb dJ17_getChars_39 hl (by decide) rfl (fun ls hl => ?_)
          have hl : lv_has ls 7 [(4, .int (nI (u % 100))), (3, .int (iI (-((u / 100 : Nat) : Int)))), (6, .int (nI (mn v))), (5, .int (nI t)), (0, .int (iI (-(u : Int)))), (1, .int (nI x)), (2, .ref b)] := hl
          refine lv_iload_n hx hb dJ17_getChars_41 rfl (lv_at hl 1 rfl) ?_
          refine lv_istore_n hx hb dJ17_getChars_42 rfl hl (by decide) rfl (fun ls hl => ?_)
          have hl : lv_has ls 7 [(0, .int (iI (-((u / 100 : Nat) : Int)))), (4, .int (nI (u % 100))), (3, .int (iI (-((u / 100 : Nat) : Int)))), (6, .int (nI (mn v))), (5, .int (nI t)), (1, .int (nI x)), (2, .ref b)] := hl
          refine lv_aload_n hx hb dJ17_getChars_43 rfl (lv_at hl 6 rfl) ?_
          refine lv_iinc (k := 4) (v := (nI (t - 1))) hx hb dJ17_getChars_44 hl rfl (by rw [show Int32.ofInt (-1) = iI (-1) from rfl, nI_iI, iI_add, nI_iI]; congr 1; omega) (by decide) rfl (fun ls hl => ?_)
          have hl : lv_has ls 7 [(5, .int (nI (t - 1))), (0, .int (iI (-((u / 100 : Nat) : Int)))), (4, .int (nI (u % 100))), (3, .int (iI (-((u / 100 : Nat) : Int)))), (6, .int (nI (mn v))), (1, .int (nI x)), (2, .ref b)] := hl
          refine lv_iload hx hb dJ17_getChars_47 (lv_at hl 0 rfl) ?_
          refine gw_gets  hx hb hal hd.1.1 hS hown (hts _ q441) (fun _ h9 => h9) dJ17_getChars_49 ?_
          refine lv_iload hx hb dJ17_getChars_52 (lv_at hl 2 rfl) ?_
          refine gw_bald hx hb hal (hd.cur hS).2.1.1 (u % 100) (rfl) (by omega) (by omega) dJ17_getChars_54 ?_
          refine gw_bast (f := (ovl f t T)) hx hb hal hbf hS (rfl) (t - 1) (rfl) (by omega) (by omega) dJ17_getChars_55 (fun H_13 locs h_new hch hS => ?_)
          clear hch
          have hbf : gI z w .byte H_13 b n (upd (ovl f t T) (t - 1) (((kOnes (u % 100))).toInt8.toInt32)) := h_new
          refine lv_aload_n hx hb dJ17_getChars_56 rfl (lv_at hl 6 rfl) ?_
          refine lv_iinc (k := 0) (v := (nI (t - 1 - 1))) hx hb dJ17_getChars_57 hl rfl (by rw [show Int32.ofInt (-1) = iI (-1) from rfl, nI_iI, iI_add, nI_iI]; congr 1; omega) (by decide) rfl (fun ls hl => ?_)
          have hl : lv_has ls 7 [(5, .int (nI (t - 1 - 1))), (0, .int (iI (-((u / 100 : Nat) : Int)))), (4, .int (nI (u % 100))), (3, .int (iI (-((u / 100 : Nat) : Int)))), (6, .int (nI (mn v))), (1, .int (nI x)), (2, .ref b)] := hl
          refine lv_iload hx hb dJ17_getChars_60 (lv_at hl 0 rfl) ?_
          refine gw_gets  hx hb hal hd.1.2 hS hown (hts _ q442) (fun _ h9 => h9) dJ17_getChars_62 ?_
          refine lv_iload hx hb dJ17_getChars_65 (lv_at hl 2 rfl) ?_
          refine gw_bald hx hb hal (hd.cur hS).2.1.2 (u % 100) (rfl) (by omega) (by omega) dJ17_getChars_67 ?_
          refine gw_bast (f := (upd (ovl f t T) (t - 1) (((kOnes (u % 100))).toInt8.toInt32))) hx hb hal hbf hS (rfl) (t - 1 - 1) (rfl) (by omega) (by omega) dJ17_getChars_68 (fun H_14 locs h_new hch hS => ?_)
          clear hch
          have hbf : gI z w .byte H_14 b n (upd (upd (ovl f t T) (t - 1) (((kOnes (u % 100))).toInt8.toInt32)) (t - 1 - 1) (((kTens (u % 100))).toInt8.toInt32)) := h_new
          have e_fit : (upd (upd (ovl f t T) (t - 1) (((kOnes (u % 100))).toInt8.toInt32)) (t - 1 - 1) (((kTens (u % 100))).toInt8.toInt32)) = (ovl f (t - 1 - 1) ((48 + u % 100 / 10) :: (48 + u % 100 % 10) :: T)) := by
            rw [ovl_put (p := t) (q := t - 1) (d := 48 + u % 100 % 10) (by omega) (kO8 (by omega)), ovl_put (p := t - 1) (q := t - 1 - 1) (d := 48 + u % 100 / 10) (by omega) (kT8 (by omega))]
          replace hbf : gI z w .byte H_14 b n (ovl f (t - 1 - 1) ((48 + u % 100 / 10) :: (48 + u % 100 % 10) :: T)) := by
            rw [← e_fit]
            exact hbf
          clear e_fit
          refine lv_goto (tgt := 22) hx hb dJ17_getChars_69 (by decide) ?_
          exact ih_loop (u / 100) ((48 + u % 100 / 10) :: (48 + u % 100 % 10) :: T) (t - 1 - 1) (by omega) (by rw [hT, dg_two hu1, List.append_assoc]; rfl) (by simp only [List.length_cons]; omega) (by omega) H_14 _ hS hbf ls (lv_sub hl [4, 0, 1, 5, 6] rfl)
    exact loop _ v.natAbs [] x (Nat.le_refl _) ((List.append_nil _).symm) rfl (Nat.lt_succ_self _) H0 _ hS hbf ls (lv_sub hl [0, 1, 2, 3, 4] rfl)
set_option maxHeartbeats 1000000 in
theorem m_getCharsJ (l : Launch) (z : State) (H0 : Heap) (b : Nat) (v : Int) (x n : Nat) (f : Nat → Int32) (w : Bool) (k : Nat → Nat) (h1 : -9223372036854775808 ≤ v) (h2 : v < 9223372036854775808) (hx1 : nd v.natAbs + mn v ≤ x) (hx2 : x ≤ n) (hn9 : n < 2147483648) (hbf : gI z w .byte H0 b n f) (hd : sD z k (fun q => q = b) H0) : Met l yJ16_getChars (ws_ yJ16_getChars cJ16_getChars 11 (some .int)) { frames := 0, cells := 0, slots := 0, locals := 0 } (gPc z H0 [.long (lI v), .int (nI x), .ref b]) (gRi (fun q => q = b) H0 (fun r H1 => r = nI (x - (nd v.natAbs + mn v)) ∧ gI z w .byte H1 b n (ovl f (x - (nd v.natAbs + mn v)) (sdg v)))) 0 0 (fun q => q = b) := by
  refine g_start (by decide +kernel) (Nat.le_of_ble_eq_true rfl) ?_
  intro p e s m below meth c ls hx hb hr hlocks hml hown hname hts hwm hl
  have hown : s.vm.findClass "java/lang/Long" = some m.cls := hown
  have hal : z.vm.Alike s.vm := hwm.alike
  have hCF : CallFix p m c cJ16_getChars 11 s [.long (lI v), .int (nI x), .ref b].toArray lw_all "java/lang/Long" := ⟨hx, hb, hml, hown, hts⟩
  have hl : lv_has ls 11 [(0, .long (lI v)), (2, .int (nI x)), (3, .ref b)] := hl
  have hS : va_S (fun q => q = b) H0 H0 [] := va_S.rf
  refine lv_iload_n hx hb dJ16_getChars_0 rfl (lv_at hl 1 rfl) ?_
  refine lv_istore hx hb dJ16_getChars_1 hl (by decide) rfl (fun ls hl => ?_)
  have hl : lv_has ls 11 [(7, .int (nI x)), (0, .long (lI v)), (2, .int (nI x)), (3, .ref b)] := hl
  refine lv_lload_n hx hb dJ16_getChars_3 rfl (lv_at hl 1 rfl) ?_
  refine lv_lconst (v := 0) hx hb dJ16_getChars_4 (by decide) ?_
  refine W.lcmp hx hb dJ16_getChars_5 ?_
  refine lv_if_ge (tgt := 13) hx hb dJ16_getChars_6 (by decide) (fun c_6 => ?_) (fun c_6 => ?_)
  · skip
    have hv : ¬ v < 0 := by
      have q := lc_ge.mp c_6
      rw [lI_toInt h1 h2] at q
      have e0 : (0 : Int64).toInt = 0 := by decide
      omega
    refine lv_iconst (v := 0) hx hb dJ16_getChars_13 (by decide) ?_
    refine lv_istore hx hb dJ16_getChars_14 hl (by decide) rfl (fun ls hl => ?_)
    have hl : lv_has ls 11 [(8, .int 0), (7, .int (nI x)), (0, .long (lI v)), (2, .int (nI x)), (3, .ref b)] := hl
    refine lv_iload hx hb dJ16_getChars_16 (lv_at hl 0 rfl) ?_
    refine lv_if_ne (tgt := 24) hx hb dJ16_getChars_18 (by decide) (fun c_18 => absurd (by decide) c_18) (fun c_18 => ?_)
    refine lv_lload_n hx hb dJ16_getChars_21 rfl (lv_at hl 2 rfl) ?_
    refine lv_lneg hx hb dJ16_getChars_22 ?_
    refine g_topl (v := (lI (-(v.natAbs : Int)))) ?_ ?_
    · skip
      rw [neg_lI]
      congr 1
      omega
    refine lv_lstore_n hx hb dJ16_getChars_23 rfl hl (by decide) rfl (fun ls hl => ?_)
    have hl : lv_has ls 11 [(0, .long (lI (-(v.natAbs : Int)))), (8, .int 0), (7, .int (nI x)), (2, .int (nI x)), (3, .ref b)] := hl
    have hmn : mn v = 0 := by unfold mn; rw [if_neg hv]
    replace hl : lv_has ls 11 [(0, .long (lI (-(v.natAbs : Int)))), (8, .int (nI (mn v))), (7, .int (nI x)), (2, .int (nI x)), (3, .ref b)] := by
      rw [hmn]
      exact hl
    have e_fit : f = (ovl f x []) := by
      exact (ovl_nil f x).symm
    replace hbf : gI z w .byte H0 b n (ovl f x []) := by
      rw [← e_fit]
      exact hbf
    clear e_fit
    have loopA : ∀ (n_ : Nat) (u : Nat) (T : List Nat) (t : Nat), (u ≤ v.natAbs) → (dg v.natAbs = dg u ++ T) → (t + T.length = x) → (u) < n_ → ∀ (H_1 : Heap) (locs : List Loc), va_S (fun q => q = b) H0 H_1 locs → gI z w .byte H_1 b n (ovl f t T) → ∀ (ls : Array Slot), lv_has ls 11 [(0, .long (lI (-(u : Int)))), (8, .int (nI (mn v))), (7, .int (nI t)), (2, .int (nI x)), (3, .ref b)] → W p l e { frames := 0, cells := 0, slots := 0, locals := 0 } s m [.long (lI v), .int (nI x), .ref b].toArray below meth c H_1 locs 0 0 (MQ below (gRi (fun q => q = b) H0 (fun r H1 => r = nI (x - (nd v.natAbs + mn v)) ∧ gI z w .byte H1 b n (ovl f (x - (nd v.natAbs + mn v)) (sdg v)))) [.long (lI v), .int (nI x), .ref b].toArray s 0 0 (fun q => q = b)) (F0 m 24 ls []) := by
      intro n_
      induction n_ with
      | zero => intro u T t hu hT ht hm_; exact absurd hm_ (Nat.not_lt_zero _)
      | succ n_ ih_loopA =>
        intro u T t hu hT ht hm_ H_1 locs hS hbf ls hl
        refine lv_lload_n hx hb dJ16_getChars_24 rfl (lv_at hl 0 rfl) ?_
        refine lv_ldc2 (v := -2147483648) hx hb hown (hts _ q406) dJ16_getChars_25 ?_
        refine W.lcmp hx hb dJ16_getChars_28 ?_
        refine lv_if_gt (tgt := 82) hx hb dJ16_getChars_29 (by decide) (fun c_29 => ?_) (fun c_29 => ?_)
        · skip
          have hu1 : u < 2147483648 := by
            have q := lc_gt.mp c_29
            rw [lI_toInt (by omega) (by omega), show (-2147483648 : Int64) = lI (-2147483648) from by decide, lI_toInt (by omega) (by omega)] at q
            omega
          refine lv_lload_n hx hb dJ16_getChars_82 rfl (lv_at hl 0 rfl) ?_
          refine lv_l2i hx hb dJ16_getChars_83 rfl ?_
          refine g_topi (v := (iI (-(u : Int)))) (lI_i32) ?_
          refine lv_istore hx hb dJ16_getChars_84 hl (by decide) rfl (fun ls hl => ?_)
          have hl : lv_has ls 11 [(10, .int (iI (-(u : Int)))), (0, .long (lI (-(u : Int)))), (8, .int (nI (mn v))), (7, .int (nI t)), (2, .int (nI x)), (3, .ref b)] := hl
          have loopB : ∀ (n_ : Nat) (o : Nat) (T2 : List Nat) (c9 : Nat), (o < 2147483648) → (dg v.natAbs = dg o ++ T2) → (c9 + T2.length = x) → (o) < n_ → ∀ (H_2 : Heap) (locs : List Loc), va_S (fun q => q = b) H0 H_2 locs → gI z w .byte H_2 b n (ovl f c9 T2) → ∀ (ls : Array Slot), lv_has ls 11 [(10, .int (iI (-(o : Int)))), (0, .long (lI (-(u : Int)))), (8, .int (nI (mn v))), (7, .int (nI c9)), (2, .int (nI x)), (3, .ref b)] → W p l e { frames := 0, cells := 0, slots := 0, locals := 0 } s m [.long (lI v), .int (nI x), .ref b].toArray below meth c H_2 locs 0 0 (MQ below (gRi (fun q => q = b) H0 (fun r H1 => r = nI (x - (nd v.natAbs + mn v)) ∧ gI z w .byte H1 b n (ovl f (x - (nd v.natAbs + mn v)) (sdg v)))) [.long (lI v), .int (nI x), .ref b].toArray s 0 0 (fun q => q = b)) (F0 m 86 ls []) := by
            intro n_
            induction n_ with
            | zero => intro o T2 c9 ho hT2 ht2 hm_; exact absurd hm_ (Nat.not_lt_zero _)
            | succ n_ ih_loopB =>
              intro o T2 c9 ho hT2 ht2 hm_ H_2 locs hS hbf ls hl
              refine lv_iload hx hb dJ16_getChars_86 (lv_at hl 0 rfl) ?_
              refine lv_bipush (v := -100) hx hb dJ16_getChars_88 (by decide) ?_
              refine lv_icmp_gt (tgt := 143) hx hb dJ16_getChars_90 (by decide) (fun c_90 => ?_) (fun c_90 => ?_)
              · skip
                have ho1 : o < 100 := by
                  rw [Int32.lt_iff_toInt_lt, show (-100 : Int32) = iI (-100) from by decide, iI_toInt (by omega) (by omega), iI_toInt (by omega) (by omega)] at c_90
                  omega
                have hnd : nd v.natAbs = nd o + T2.length := by unfold nd; rw [hT2, List.length_append]
                have hnp := nd_pos o
                refine lv_aload_n hx hb dJ16_getChars_143 rfl (lv_at hl 5 rfl) ?_
                refine lv_iinc (k := 3) (v := (nI (c9 - 1))) hx hb dJ16_getChars_144 hl rfl (by rw [show Int32.ofInt (-1) = iI (-1) from rfl, nI_iI, iI_add, nI_iI]; congr 1; omega) (by decide) rfl (fun ls hl => ?_)
                have hl : lv_has ls 11 [(7, .int (nI (c9 - 1))), (10, .int (iI (-(o : Int)))), (0, .long (lI (-(u : Int)))), (8, .int (nI (mn v))), (2, .int (nI x)), (3, .ref b)] := hl
                refine lv_iload hx hb dJ16_getChars_147 (lv_at hl 0 rfl) ?_
                refine gw_gets  hx hb hal hd.1.1 hS hown (hts _ q408) (fun _ h9 => h9) dJ16_getChars_149 ?_
                refine lv_iload hx hb dJ16_getChars_152 (lv_at hl 1 rfl) ?_
                refine lv_ineg hx hb dJ16_getChars_154 ?_
                refine g_topi (v := (nI o)) ?_ ?_
                · skip
                  rw [iI_neg, nI_iI]
                  congr 1
                  omega
                refine gw_bald hx hb hal (hd.cur hS).2.1.1 o (rfl) (by omega) (by omega) dJ16_getChars_155 ?_
                refine gw_bast (f := (ovl f c9 T2)) hx hb hal hbf hS (rfl) (c9 - 1) (rfl) (by omega) (by omega) dJ16_getChars_156 (fun H_3 locs h_new hch hS => ?_)
                clear hch
                have hbf : gI z w .byte H_3 b n (upd (ovl f c9 T2) (c9 - 1) (((kOnes o)).toInt8.toInt32)) := h_new
                have e_fit : (upd (ovl f c9 T2) (c9 - 1) (((kOnes o)).toInt8.toInt32)) = (ovl f (c9 - 1) ((48 + o % 10) :: T2)) := by
                  exact ovl_put (by omega) (kO8 (by omega))
                replace hbf : gI z w .byte H_3 b n (ovl f (c9 - 1) ((48 + o % 10) :: T2)) := by
                  rw [← e_fit]
                  exact hbf
                clear e_fit
                refine lv_iload hx hb dJ16_getChars_157 (lv_at hl 1 rfl) ?_
                refine lv_bipush (v := -9) hx hb dJ16_getChars_159 (by decide) ?_
                refine lv_icmp_ge (tgt := 178) hx hb dJ16_getChars_161 (by decide) (fun c_161 => ?_) (fun c_161 => ?_)
                · skip
                  have hu9 : o < 10 := by
                    rw [Int32.le_iff_toInt_le, show (-9 : Int32) = iI (-9) from by decide, iI_toInt (by omega) (by omega), iI_toInt (by omega) (by omega)] at c_161
                    omega
                  have hn1 := nd_lt hu9
                  have e_fit : (ovl f (c9 - 1) ((48 + o % 10) :: T2)) = (ovl f (c9 - 1) (dg v.natAbs)) := by
                    rw [hT2, dg_lt hu9, show o % 10 = o by omega]
                    rfl
                  replace hbf : gI z w .byte H_3 b n (ovl f (c9 - 1) (dg v.natAbs)) := by
                    rw [← e_fit]
                    exact hbf
                  clear e_fit
                  refine lv_iload hx hb dJ16_getChars_178 (lv_at hl 3 rfl) ?_
                  refine lv_if_eq (tgt := 192) hx hb dJ16_getChars_180 (by decide) (fun c_180 => ?_) (fun c_180 => ?_)
                  · skip
                    have hm0 : mn v = 0 := by
                      have q := congrArg Int32.toInt c_180
                      have := mn_b v
                      rw [nI_toInt (by omega)] at q
                      have e0 : (0 : Int32).toInt = 0 := by decide
                      omega
                    have hv0 : ¬ v < 0 := by unfold mn at hm0; split at hm0 <;> omega
                    refine lv_iload hx hb dJ16_getChars_192 (lv_at hl 0 rfl) ?_
                    refine g_iret hx hb hr hlocks hS (Nat.le_of_ble_eq_true rfl) (Nat.le_of_ble_eq_true rfl) ?_ dJ16_getChars_194
                    rw [show x - (nd v.natAbs + mn v) = c9 - 1 by omega]
                    exact ⟨rfl, by rw [show sdg v = dg v.natAbs by unfold sdg; rw [if_neg hv0]; rfl]; exact hbf⟩
                  · skip
                    have hm0 : mn v = 1 := by
                      have := mn_b v
                      refine Decidable.byContradiction fun q => c_180 ?_
                      rw [show mn v = 0 by omega]
                      rfl
                    have hv0 : v < 0 := by unfold mn at hm0; split at hm0 <;> omega
                    refine lv_aload_n hx hb dJ16_getChars_183 rfl (lv_at hl 5 rfl) ?_
                    refine lv_iinc (k := 0) (v := (nI (c9 - 1 - 1))) hx hb dJ16_getChars_184 hl rfl (by rw [show Int32.ofInt (-1) = iI (-1) from rfl, nI_iI, iI_add, nI_iI]; congr 1; omega) (by decide) rfl (fun ls hl => ?_)
                    have hl : lv_has ls 11 [(7, .int (nI (c9 - 1 - 1))), (10, .int (iI (-(o : Int)))), (0, .long (lI (-(u : Int)))), (8, .int (nI (mn v))), (2, .int (nI x)), (3, .ref b)] := hl
                    refine lv_iload hx hb dJ16_getChars_187 (lv_at hl 0 rfl) ?_
                    refine lv_bipush (v := 45) hx hb dJ16_getChars_189 (by decide) ?_
                    refine gw_bast (f := (ovl f (c9 - 1) (dg v.natAbs))) hx hb hal hbf hS (rfl) (c9 - 1 - 1) (rfl) (by omega) (by omega) dJ16_getChars_191 (fun H_4 locs h_new hch hS => ?_)
                    clear hch
                    have hbf : gI z w .byte H_4 b n (upd (ovl f (c9 - 1) (dg v.natAbs)) (c9 - 1 - 1) ((45 : Int32).toInt8.toInt32)) := h_new
                    refine lv_iload hx hb dJ16_getChars_192 (lv_at hl 0 rfl) ?_
                    refine g_iret hx hb hr hlocks hS (Nat.le_of_ble_eq_true rfl) (Nat.le_of_ble_eq_true rfl) ?_ dJ16_getChars_194
                    rw [ovl_put (p := c9 - 1) (q := c9 - 1 - 1) (d := 45) (by omega) (by decide)] at hbf
                    rw [show x - (nd v.natAbs + mn v) = c9 - 1 - 1 by omega]
                    exact ⟨rfl, by rw [show sdg v = 45 :: dg v.natAbs by unfold sdg; rw [if_pos hv0]; rfl]; exact hbf⟩
                · skip
                  have hu9 : 10 ≤ o := by
                    refine Decidable.byContradiction fun q => c_161 ?_
                    rw [Int32.le_iff_toInt_le, show (-9 : Int32) = iI (-9) from by decide, iI_toInt (by omega) (by omega), iI_toInt (by omega) (by omega)]
                    omega
                  have hn1 : nd o = 2 := by rw [nd_ge hu9, nd_lt (by omega)]
                  refine lv_aload_n hx hb dJ16_getChars_164 rfl (lv_at hl 5 rfl) ?_
                  refine lv_iinc (k := 0) (v := (nI (c9 - 1 - 1))) hx hb dJ16_getChars_165 hl rfl (by rw [show Int32.ofInt (-1) = iI (-1) from rfl, nI_iI, iI_add, nI_iI]; congr 1; omega) (by decide) rfl (fun ls hl => ?_)
                  have hl : lv_has ls 11 [(7, .int (nI (c9 - 1 - 1))), (10, .int (iI (-(o : Int)))), (0, .long (lI (-(u : Int)))), (8, .int (nI (mn v))), (2, .int (nI x)), (3, .ref b)] := hl
                  refine lv_iload hx hb dJ16_getChars_168 (lv_at hl 0 rfl) ?_
                  refine gw_gets  hx hb hal hd.1.2 hS hown (hts _ q410) (fun _ h9 => h9) dJ16_getChars_170 ?_
                  refine lv_iload hx hb dJ16_getChars_173 (lv_at hl 1 rfl) ?_
                  refine lv_ineg hx hb dJ16_getChars_175 ?_
                  refine g_topi (v := (nI o)) ?_ ?_
                  · skip
                    rw [iI_neg, nI_iI]
                    congr 1
                    omega
                  refine gw_bald hx hb hal (hd.cur hS).2.1.2 o (rfl) (by omega) (by omega) dJ16_getChars_176 ?_
                  refine gw_bast (f := (ovl f (c9 - 1) ((48 + o % 10) :: T2))) hx hb hal hbf hS (rfl) (c9 - 1 - 1) (rfl) (by omega) (by omega) dJ16_getChars_177 (fun H_5 locs h_new hch hS => ?_)
                  clear hch
                  have hbf : gI z w .byte H_5 b n (upd (ovl f (c9 - 1) ((48 + o % 10) :: T2)) (c9 - 1 - 1) (((kTens o)).toInt8.toInt32)) := h_new
                  have e_fit : (upd (ovl f (c9 - 1) ((48 + o % 10) :: T2)) (c9 - 1 - 1) (((kTens o)).toInt8.toInt32)) = (ovl f (c9 - 1 - 1) (dg v.natAbs)) := by
                    rw [ovl_put (p := c9 - 1) (q := c9 - 1 - 1) (d := 48 + o / 10) (by omega) (kT8 (by omega)), hT2, dg_ge hu9, dg_lt (by omega)]
                    rfl
                  replace hbf : gI z w .byte H_5 b n (ovl f (c9 - 1 - 1) (dg v.natAbs)) := by
                    rw [← e_fit]
                    exact hbf
                  clear e_fit
                  refine lv_iload hx hb dJ16_getChars_178 (lv_at hl 3 rfl) ?_
                  refine lv_if_eq (tgt := 192) hx hb dJ16_getChars_180 (by decide) (fun c_180 => ?_) (fun c_180 => ?_)
                  · skip
                    have hm0 : mn v = 0 := by
                      have q := congrArg Int32.toInt c_180
                      have := mn_b v
                      rw [nI_toInt (by omega)] at q
                      have e0 : (0 : Int32).toInt = 0 := by decide
                      omega
                    have hv0 : ¬ v < 0 := by unfold mn at hm0; split at hm0 <;> omega
                    refine lv_iload hx hb dJ16_getChars_192 (lv_at hl 0 rfl) ?_
                    refine g_iret hx hb hr hlocks hS (Nat.le_of_ble_eq_true rfl) (Nat.le_of_ble_eq_true rfl) ?_ dJ16_getChars_194
                    rw [show x - (nd v.natAbs + mn v) = c9 - 1 - 1 by omega]
                    exact ⟨rfl, by rw [show sdg v = dg v.natAbs by unfold sdg; rw [if_neg hv0]; rfl]; exact hbf⟩
                  · skip
                    have hm0 : mn v = 1 := by
                      have := mn_b v
                      refine Decidable.byContradiction fun q => c_180 ?_
                      rw [show mn v = 0 by omega]
                      rfl
                    have hv0 : v < 0 := by unfold mn at hm0; split at hm0 <;> omega
                    refine lv_aload_n hx hb dJ16_getChars_183 rfl (lv_at hl 5 rfl) ?_
                    refine lv_iinc (k := 0) (v := (nI (c9 - 1 - 1 - 1))) hx hb dJ16_getChars_184 hl rfl (by rw [show Int32.ofInt (-1) = iI (-1) from rfl, nI_iI, iI_add, nI_iI]; congr 1; omega) (by decide) rfl (fun ls hl => ?_)
                    have hl : lv_has ls 11 [(7, .int (nI (c9 - 1 - 1 - 1))), (10, .int (iI (-(o : Int)))), (0, .long (lI (-(u : Int)))), (8, .int (nI (mn v))), (2, .int (nI x)), (3, .ref b)] := hl
                    refine lv_iload hx hb dJ16_getChars_187 (lv_at hl 0 rfl) ?_
                    refine lv_bipush (v := 45) hx hb dJ16_getChars_189 (by decide) ?_
                    refine gw_bast (f := (ovl f (c9 - 1 - 1) (dg v.natAbs))) hx hb hal hbf hS (rfl) (c9 - 1 - 1 - 1) (rfl) (by omega) (by omega) dJ16_getChars_191 (fun H_6 locs h_new hch hS => ?_)
                    clear hch
                    have hbf : gI z w .byte H_6 b n (upd (ovl f (c9 - 1 - 1) (dg v.natAbs)) (c9 - 1 - 1 - 1) ((45 : Int32).toInt8.toInt32)) := h_new
                    refine lv_iload hx hb dJ16_getChars_192 (lv_at hl 0 rfl) ?_
                    refine g_iret hx hb hr hlocks hS (Nat.le_of_ble_eq_true rfl) (Nat.le_of_ble_eq_true rfl) ?_ dJ16_getChars_194
                    rw [ovl_put (p := c9 - 1 - 1) (q := c9 - 1 - 1 - 1) (d := 45) (by omega) (by decide)] at hbf
                    rw [show x - (nd v.natAbs + mn v) = c9 - 1 - 1 - 1 by omega]
                    exact ⟨rfl, by rw [show sdg v = 45 :: dg v.natAbs by unfold sdg; rw [if_pos hv0]; rfl]; exact hbf⟩
              · skip
                have ho1 : 100 ≤ o := by
                  refine Decidable.byContradiction fun q => c_90 ?_
                  rw [Int32.lt_iff_toInt_lt, show (-100 : Int32) = iI (-100) from by decide, iI_toInt (by omega) (by omega), iI_toInt (by omega) (by omega)]
                  omega
                have hnd : nd v.natAbs = nd o + T2.length := by unfold nd; rw [hT2, List.length_append]
                have hn2 := nd_two ho1
                have hnp := nd_pos (o / 100)
                refine lv_iload hx hb dJ16_getChars_93 (lv_at hl 0 rfl) ?_
                refine lv_bipush (v := 100) hx hb dJ16_getChars_95 (by decide) ?_
                refine lv_idiv hx hb dJ16_getChars_97 (by decide) ?_
                refine g_topi (v := (iI (-((o / 100 : Nat) : Int)))) ?_ ?_
                · skip
                  rw [show (100 : Int32) = iI 100 from by decide, iI_div (by omega) (by omega) (by omega) (by omega), tdiv_100]
                refine lv_istore hx hb dJ16_getChars_98 hl (by decide) rfl (fun ls hl => ?_)
                have hl : lv_has ls 11 [(9, .int (iI (-((o / 100 : Nat) : Int)))), (10, .int (iI (-(o : Int)))), (0, .long (lI (-(u : Int)))), (8, .int (nI (mn v))), (7, .int (nI c9)), (2, .int (nI x)), (3, .ref b)] := hl
                refine lv_iload hx hb dJ16_getChars_100 (lv_at hl 0 rfl) ?_
                refine lv_bipush (v := 100) hx hb dJ16_getChars_102 (by decide) ?_
                refine lv_imul hx hb dJ16_getChars_104 ?_
                refine lv_iload hx hb dJ16_getChars_105 (lv_at hl 1 rfl) ?_
                refine lv_isub hx hb dJ16_getChars_107 ?_
                refine g_topi (v := (nI (o % 100))) ?_ ?_
                · skip
                  rw [show (100 : Int32) = iI 100 from by decide, iI_mul, iI_sub, nI_iI]
                  congr 1
                  omega
                refine lv_istore hx hb dJ16_getChars_108 hl (by decide) rfl (fun ls hl => ?_)
                have hl : lv_has ls 11 [(6, .int (nI (o % 100))), (9, .int (iI (-((o / 100 : Nat) : Int)))), (10, .int (iI (-(o : Int)))), (0, .long (lI (-(u : Int)))), (8, .int (nI (mn v))), (7, .int (nI c9)), (2, .int (nI x)), (3, .ref b)] := hl
                refine lv_iload hx hb dJ16_getChars_110 (lv_at hl 1 rfl) ?_
                refine lv_istore hx hb dJ16_getChars_112 hl (by decide) rfl (fun ls hl => ?_)
                have hl : lv_has ls 11 [(10, .int (iI (-((o / 100 : Nat) : Int)))), (6, .int (nI (o % 100))), (9, .int (iI (-((o / 100 : Nat) : Int)))), (0, .long (lI (-(u : Int)))), (8, .int (nI (mn v))), (7, .int (nI c9)), (2, .int (nI x)), (3, .ref b)] := hl
                refine lv_aload_n hx hb dJ16_getChars_114 rfl (lv_at hl 7 rfl) ?_
                refine lv_iinc (k := 5) (v := (nI (c9 - 1))) hx hb dJ16_getChars_115 hl rfl (by rw [show Int32.ofInt (-1) = iI (-1) from rfl, nI_iI, iI_add, nI_iI]; congr 1; omega) (by decide) rfl (fun ls hl => ?_)
                have hl : lv_has ls 11 [(7, .int (nI (c9 - 1))), (10, .int (iI (-((o / 100 : Nat) : Int)))), (6, .int (nI (o % 100))), (9, .int (iI (-((o / 100 : Nat) : Int)))), (0, .long (lI (-(u : Int)))), (8, .int (nI (mn v))), (2, .int (nI x)), (3, .ref b)] := hl
                refine lv_iload hx hb dJ16_getChars_118 (lv_at hl 0 rfl) ?_
                refine gw_gets  hx hb hal hd.1.1 hS hown (hts _ q408) (fun _ h9 => h9) dJ16_getChars_120 ?_
                refine lv_iload hx hb dJ16_getChars_123 (lv_at hl 2 rfl) ?_
                refine gw_bald hx hb hal (hd.cur hS).2.1.1 (o % 100) (rfl) (by omega) (by omega) dJ16_getChars_125 ?_
                refine gw_bast (f := (ovl f c9 T2)) hx hb hal hbf hS (rfl) (c9 - 1) (rfl) (by omega) (by omega) dJ16_getChars_126 (fun H_7 locs h_new hch hS => ?_)
                clear hch
                have hbf : gI z w .byte H_7 b n (upd (ovl f c9 T2) (c9 - 1) (((kOnes (o % 100))).toInt8.toInt32)) := h_new
                refine lv_aload_n hx hb dJ16_getChars_127 rfl (lv_at hl 7 rfl) ?_
                refine lv_iinc (k := 0) (v := (nI (c9 - 1 - 1))) hx hb dJ16_getChars_128 hl rfl (by rw [show Int32.ofInt (-1) = iI (-1) from rfl, nI_iI, iI_add, nI_iI]; congr 1; omega) (by decide) rfl (fun ls hl => ?_)
                have hl : lv_has ls 11 [(7, .int (nI (c9 - 1 - 1))), (10, .int (iI (-((o / 100 : Nat) : Int)))), (6, .int (nI (o % 100))), (9, .int (iI (-((o / 100 : Nat) : Int)))), (0, .long (lI (-(u : Int)))), (8, .int (nI (mn v))), (2, .int (nI x)), (3, .ref b)] := hl
                refine lv_iload hx hb dJ16_getChars_131 (lv_at hl 0 rfl) ?_
                refine gw_gets  hx hb hal hd.1.2 hS hown (hts _ q410) (fun _ h9 => h9) dJ16_getChars_133 ?_
                refine lv_iload hx hb dJ16_getChars_136 (lv_at hl 2 rfl) ?_
                refine gw_bald hx hb hal (hd.cur hS).2.1.2 (o % 100) (rfl) (by omega) (by omega) dJ16_getChars_138 ?_
                refine gw_bast (f := (upd (ovl f c9 T2) (c9 - 1) (((kOnes (o % 100))).toInt8.toInt32))) hx hb hal hbf hS (rfl) (c9 - 1 - 1) (rfl) (by omega) (by omega) dJ16_getChars_139 (fun H_8 locs h_new hch hS => ?_)
                clear hch
                have hbf : gI z w .byte H_8 b n (upd (upd (ovl f c9 T2) (c9 - 1) (((kOnes (o % 100))).toInt8.toInt32)) (c9 - 1 - 1) (((kTens (o % 100))).toInt8.toInt32)) := h_new
                have e_fit : (upd (upd (ovl f c9 T2) (c9 - 1) (((kOnes (o % 100))).toInt8.toInt32)) (c9 - 1 - 1) (((kTens (o % 100))).toInt8.toInt32)) = (ovl f (c9 - 1 - 1) ((48 + o % 100 / 10) :: (48 + o % 100 % 10) :: T2)) := by
                  rw [ovl_put (p := c9) (q := c9 - 1) (d := 48 + o % 100 % 10) (by omega) (kO8 (by omega)), ovl_put (p := c9 - 1) (q := c9 - 1 - 1) (d := 48 + o % 100 / 10) (by omega) (kT8 (by omega))]
                replace hbf : gI z w .byte H_8 b n (ovl f (c9 - 1 - 1) ((48 + o % 100 / 10) :: (48 + o % 100 % 10) :: T2)) := by
                  rw [← e_fit]
                  exact hbf
                clear e_fit
                refine lv_goto (tgt := 86) hx hb dJ16_getChars_140 (by decide) ?_
                exact ih_loopB (o / 100) ((48 + o % 100 / 10) :: (48 + o % 100 % 10) :: T2) (c9 - 1 - 1) (by omega) (by rw [hT2, dg_two ho1, List.append_assoc]; rfl) (by simp only [List.length_cons]; omega) (by omega) H_8 _ hS hbf ls (lv_sub hl [1, 4, 5, 0, 6, 7] rfl)
          exact loopB _ u T t hu1 hT ht (Nat.lt_succ_self _) H_1 _ hS hbf ls (lv_sub hl [0, 1, 2, 3, 4, 5] rfl)
        · skip
          have hu1 : 100 ≤ u := by
            refine Decidable.byContradiction fun q => c_29 (lc_gt.mpr ?_)
            rw [lI_toInt (by omega) (by omega), show (-2147483648 : Int64) = lI (-2147483648) from by decide, lI_toInt (by omega) (by omega)]
            omega
          have hnd : nd v.natAbs = nd u + T.length := by unfold nd; rw [hT, List.length_append]
          have hn2 := nd_two hu1
          have hnp := nd_pos (u / 100)
          refine lv_lload_n hx hb dJ16_getChars_32 rfl (lv_at hl 0 rfl) ?_
          refine lv_ldc2 (v := 100) hx hb hown (hts _ q407) dJ16_getChars_33 ?_
          refine lv_ldiv hx hb dJ16_getChars_36 (by decide) ?_
          refine g_topl (v := (lI (-((u / 100 : Nat) : Int)))) ?_ ?_
          · skip
            rw [show (100 : Int64) = lI 100 from by decide, lI_div (by omega) (by omega) (by omega) (by omega), tdiv_100]
          refine lv_lstore hx hb dJ16_getChars_37 hl (by decide) rfl (fun ls hl => ?_)
          have hl : lv_has ls 11 [(4, .long (lI (-((u / 100 : Nat) : Int)))), (0, .long (lI (-(u : Int)))), (8, .int (nI (mn v))), (7, .int (nI t)), (2, .int (nI x)), (3, .ref b)] := hl
          refine lv_lload hx hb dJ16_getChars_39 (lv_at hl 0 rfl) ?_
          refine lv_ldc2 (v := 100) hx hb hown (hts _ q407) dJ16_getChars_41 ?_
          refine lv_lmul hx hb dJ16_getChars_44 ?_
          refine lv_lload_n hx hb dJ16_getChars_45 rfl (lv_at hl 1 rfl) ?_
          refine lv_lsub hx hb dJ16_getChars_46 ?_
          refine g_topl (v := (lI ((u % 100 : Nat) : Int))) ?_ ?_
          · skip
            rw [show (100 : Int64) = lI 100 from by decide, lI_mul, lI_sub]
            congr 1
            omega
          refine lv_l2i hx hb dJ16_getChars_47 rfl ?_
          refine g_topi (v := (nI (u % 100))) ?_ ?_
          · skip
            rw [lI_i32]
            rfl
          refine lv_istore hx hb dJ16_getChars_48 hl (by decide) rfl (fun ls hl => ?_)
          have hl : lv_has ls 11 [(6, .int (nI (u % 100))), (4, .long (lI (-((u / 100 : Nat) : Int)))), (0, .long (lI (-(u : Int)))), (8, .int (nI (mn v))), (7, .int (nI t)), (2, .int (nI x)), (3, .ref b)] := hl
          refine lv_lload hx hb dJ16_getChars_50 (lv_at hl 1 rfl) ?_
          refine lv_lstore_n hx hb dJ16_getChars_52 rfl hl (by decide) rfl (fun ls hl => ?_)
          have hl : lv_has ls 11 [(0, .long (lI (-((u / 100 : Nat) : Int)))), (6, .int (nI (u % 100))), (4, .long (lI (-((u / 100 : Nat) : Int)))), (8, .int (nI (mn v))), (7, .int (nI t)), (2, .int (nI x)), (3, .ref b)] := hl
          refine lv_aload_n hx hb dJ16_getChars_53 rfl (lv_at hl 6 rfl) ?_
          refine lv_iinc (k := 4) (v := (nI (t - 1))) hx hb dJ16_getChars_54 hl rfl (by rw [show Int32.ofInt (-1) = iI (-1) from rfl, nI_iI, iI_add, nI_iI]; congr 1; omega) (by decide) rfl (fun ls hl => ?_)
          have hl : lv_has ls 11 [(7, .int (nI (t - 1))), (0, .long (lI (-((u / 100 : Nat) : Int)))), (6, .int (nI (u % 100))), (4, .long (lI (-((u / 100 : Nat) : Int)))), (8, .int (nI (mn v))), (2, .int (nI x)), (3, .ref b)] := hl
          refine lv_iload hx hb dJ16_getChars_57 (lv_at hl 0 rfl) ?_
          refine gw_gets  hx hb hal hd.1.1 hS hown (hts _ q408) (fun _ h9 => h9) dJ16_getChars_59 ?_
          refine lv_iload hx hb dJ16_getChars_62 (lv_at hl 2 rfl) ?_
          refine gw_bald hx hb hal (hd.cur hS).2.1.1 (u % 100) (rfl) (by omega) (by omega) dJ16_getChars_64 ?_
          refine gw_bast (f := (ovl f t T)) hx hb hal hbf hS (rfl) (t - 1) (rfl) (by omega) (by omega) dJ16_getChars_65 (fun H_9 locs h_new hch hS => ?_)
          clear hch
          have hbf : gI z w .byte H_9 b n (upd (ovl f t T) (t - 1) (((kOnes (u % 100))).toInt8.toInt32)) := h_new
          refine lv_aload_n hx hb dJ16_getChars_66 rfl (lv_at hl 6 rfl) ?_
          refine lv_iinc (k := 0) (v := (nI (t - 1 - 1))) hx hb dJ16_getChars_67 hl rfl (by rw [show Int32.ofInt (-1) = iI (-1) from rfl, nI_iI, iI_add, nI_iI]; congr 1; omega) (by decide) rfl (fun ls hl => ?_)
          have hl : lv_has ls 11 [(7, .int (nI (t - 1 - 1))), (0, .long (lI (-((u / 100 : Nat) : Int)))), (6, .int (nI (u % 100))), (4, .long (lI (-((u / 100 : Nat) : Int)))), (8, .int (nI (mn v))), (2, .int (nI x)), (3, .ref b)] := hl
          refine lv_iload hx hb dJ16_getChars_70 (lv_at hl 0 rfl) ?_
          refine gw_gets  hx hb hal hd.1.2 hS hown (hts _ q410) (fun _ h9 => h9) dJ16_getChars_72 ?_
          refine lv_iload hx hb dJ16_getChars_75 (lv_at hl 2 rfl) ?_
          refine gw_bald hx hb hal (hd.cur hS).2.1.2 (u % 100) (rfl) (by omega) (by omega) dJ16_getChars_77 ?_
          refine gw_bast (f := (upd (ovl f t T) (t - 1) (((kOnes (u % 100))).toInt8.toInt32))) hx hb hal hbf hS (rfl) (t - 1 - 1) (rfl) (by omega) (by omega) dJ16_getChars_78 (fun H_10 locs h_new hch hS => ?_)
          clear hch
          have hbf : gI z w .byte H_10 b n (upd (upd (ovl f t T) (t - 1) (((kOnes (u % 100))).toInt8.toInt32)) (t - 1 - 1) (((kTens (u % 100))).toInt8.toInt32)) := h_new
          have e_fit : (upd (upd (ovl f t T) (t - 1) (((kOnes (u % 100))).toInt8.toInt32)) (t - 1 - 1) (((kTens (u % 100))).toInt8.toInt32)) = (ovl f (t - 1 - 1) ((48 + u % 100 / 10) :: (48 + u % 100 % 10) :: T)) := by
            rw [ovl_put (p := t) (q := t - 1) (d := 48 + u % 100 % 10) (by omega) (kO8 (by omega)), ovl_put (p := t - 1) (q := t - 1 - 1) (d := 48 + u % 100 / 10) (by omega) (kT8 (by omega))]
          replace hbf : gI z w .byte H_10 b n (ovl f (t - 1 - 1) ((48 + u % 100 / 10) :: (48 + u % 100 % 10) :: T)) := by
            rw [← e_fit]
            exact hbf
          clear e_fit
          refine lv_goto (tgt := 24) hx hb dJ16_getChars_79 (by decide) ?_
          exact ih_loopA (u / 100) ((48 + u % 100 / 10) :: (48 + u % 100 % 10) :: T) (t - 1 - 1) (by omega) (by rw [hT, dg_two hu1, List.append_assoc]; rfl) (by simp only [List.length_cons]; omega) (by omega) H_10 _ hS hbf ls (lv_sub hl [1, 4, 0, 5, 6] rfl)
    exact loopA _ v.natAbs [] x (Nat.le_refl _) ((List.append_nil _).symm) rfl (Nat.lt_succ_self _) H0 _ hS hbf ls (lv_sub hl [0, 1, 2, 3, 4] rfl)
  · skip
    have hv : v < 0 := by
      refine Decidable.byContradiction fun q => c_6 (lc_ge.mpr ?_)
      rw [lI_toInt h1 h2]
      have e0 : (0 : Int64).toInt = 0 := by decide
      omega
    refine lv_iconst (v := 1) hx hb dJ16_getChars_9 (by decide) ?_
    refine lv_goto (tgt := 14) hx hb dJ16_getChars_10 (by decide) ?_
    refine lv_istore hx hb dJ16_getChars_14 hl (by decide) rfl (fun ls hl => ?_)
    have hl : lv_has ls 11 [(8, .int 1), (7, .int (nI x)), (0, .long (lI v)), (2, .int (nI x)), (3, .ref b)] := hl
    refine lv_iload hx hb dJ16_getChars_16 (lv_at hl 0 rfl) ?_
    refine lv_if_ne (tgt := 24) hx hb dJ16_getChars_18 (by decide) (fun c_18 => ?_) (fun c_18 => absurd c_18 (by decide))
    have hmn : mn v = 1 := by unfold mn; rw [if_pos hv]
    replace hl : lv_has ls 11 [(8, .int (nI (mn v))), (7, .int (nI x)), (0, .long (lI (-(v.natAbs : Int)))), (2, .int (nI x)), (3, .ref b)] := by
      rw [hmn, show -(v.natAbs : Int) = v by omega]
      exact hl
    have e_fit : f = (ovl f x []) := by
      exact (ovl_nil f x).symm
    replace hbf : gI z w .byte H0 b n (ovl f x []) := by
      rw [← e_fit]
      exact hbf
    clear e_fit
    have loopA : ∀ (n_ : Nat) (u : Nat) (T : List Nat) (t : Nat), (u ≤ v.natAbs) → (dg v.natAbs = dg u ++ T) → (t + T.length = x) → (u) < n_ → ∀ (H_11 : Heap) (locs : List Loc), va_S (fun q => q = b) H0 H_11 locs → gI z w .byte H_11 b n (ovl f t T) → ∀ (ls : Array Slot), lv_has ls 11 [(8, .int (nI (mn v))), (7, .int (nI t)), (0, .long (lI (-(u : Int)))), (2, .int (nI x)), (3, .ref b)] → W p l e { frames := 0, cells := 0, slots := 0, locals := 0 } s m [.long (lI v), .int (nI x), .ref b].toArray below meth c H_11 locs 0 0 (MQ below (gRi (fun q => q = b) H0 (fun r H1 => r = nI (x - (nd v.natAbs + mn v)) ∧ gI z w .byte H1 b n (ovl f (x - (nd v.natAbs + mn v)) (sdg v)))) [.long (lI v), .int (nI x), .ref b].toArray s 0 0 (fun q => q = b)) (F0 m 24 ls []) := by
      intro n_
      induction n_ with
      | zero => intro u T t hu hT ht hm_; exact absurd hm_ (Nat.not_lt_zero _)
      | succ n_ ih_loopA =>
        intro u T t hu hT ht hm_ H_11 locs hS hbf ls hl
        refine lv_lload_n hx hb dJ16_getChars_24 rfl (lv_at hl 2 rfl) ?_
        refine lv_ldc2 (v := -2147483648) hx hb hown (hts _ q406) dJ16_getChars_25 ?_
        refine W.lcmp hx hb dJ16_getChars_28 ?_
        refine lv_if_gt (tgt := 82) hx hb dJ16_getChars_29 (by decide) (fun c_29 => ?_) (fun c_29 => ?_)
        · skip
          have hu1 : u < 2147483648 := by
            have q := lc_gt.mp c_29
            rw [lI_toInt (by omega) (by omega), show (-2147483648 : Int64) = lI (-2147483648) from by decide, lI_toInt (by omega) (by omega)] at q
            omega
          refine lv_lload_n hx hb dJ16_getChars_82 rfl (lv_at hl 2 rfl) ?_
          refine lv_l2i hx hb dJ16_getChars_83 rfl ?_
          refine g_topi (v := (iI (-(u : Int)))) (lI_i32) ?_
          refine lv_istore hx hb dJ16_getChars_84 hl (by decide) rfl (fun ls hl => ?_)
          have hl : lv_has ls 11 [(10, .int (iI (-(u : Int)))), (8, .int (nI (mn v))), (7, .int (nI t)), (0, .long (lI (-(u : Int)))), (2, .int (nI x)), (3, .ref b)] := hl
          have loopB : ∀ (n_ : Nat) (o : Nat) (T2 : List Nat) (c9 : Nat), (o < 2147483648) → (dg v.natAbs = dg o ++ T2) → (c9 + T2.length = x) → (o) < n_ → ∀ (H_12 : Heap) (locs : List Loc), va_S (fun q => q = b) H0 H_12 locs → gI z w .byte H_12 b n (ovl f c9 T2) → ∀ (ls : Array Slot), lv_has ls 11 [(10, .int (iI (-(o : Int)))), (8, .int (nI (mn v))), (7, .int (nI c9)), (0, .long (lI (-(u : Int)))), (2, .int (nI x)), (3, .ref b)] → W p l e { frames := 0, cells := 0, slots := 0, locals := 0 } s m [.long (lI v), .int (nI x), .ref b].toArray below meth c H_12 locs 0 0 (MQ below (gRi (fun q => q = b) H0 (fun r H1 => r = nI (x - (nd v.natAbs + mn v)) ∧ gI z w .byte H1 b n (ovl f (x - (nd v.natAbs + mn v)) (sdg v)))) [.long (lI v), .int (nI x), .ref b].toArray s 0 0 (fun q => q = b)) (F0 m 86 ls []) := by
            intro n_
            induction n_ with
            | zero => intro o T2 c9 ho hT2 ht2 hm_; exact absurd hm_ (Nat.not_lt_zero _)
            | succ n_ ih_loopB =>
              intro o T2 c9 ho hT2 ht2 hm_ H_12 locs hS hbf ls hl
              refine lv_iload hx hb dJ16_getChars_86 (lv_at hl 0 rfl) ?_
              refine lv_bipush (v := -100) hx hb dJ16_getChars_88 (by decide) ?_
              refine lv_icmp_gt (tgt := 143) hx hb dJ16_getChars_90 (by decide) (fun c_90 => ?_) (fun c_90 => ?_)
              · skip
                have ho1 : o < 100 := by
                  rw [Int32.lt_iff_toInt_lt, show (-100 : Int32) = iI (-100) from by decide, iI_toInt (by omega) (by omega), iI_toInt (by omega) (by omega)] at c_90
                  omega
                have hnd : nd v.natAbs = nd o + T2.length := by unfold nd; rw [hT2, List.length_append]
                have hnp := nd_pos o
                refine lv_aload_n hx hb dJ16_getChars_143 rfl (lv_at hl 5 rfl) ?_
                refine lv_iinc (k := 2) (v := (nI (c9 - 1))) hx hb dJ16_getChars_144 hl rfl (by rw [show Int32.ofInt (-1) = iI (-1) from rfl, nI_iI, iI_add, nI_iI]; congr 1; omega) (by decide) rfl (fun ls hl => ?_)
                have hl : lv_has ls 11 [(7, .int (nI (c9 - 1))), (10, .int (iI (-(o : Int)))), (8, .int (nI (mn v))), (0, .long (lI (-(u : Int)))), (2, .int (nI x)), (3, .ref b)] := hl
                refine lv_iload hx hb dJ16_getChars_147 (lv_at hl 0 rfl) ?_
                refine gw_gets  hx hb hal hd.1.1 hS hown (hts _ q408) (fun _ h9 => h9) dJ16_getChars_149 ?_
                refine lv_iload hx hb dJ16_getChars_152 (lv_at hl 1 rfl) ?_
                refine lv_ineg hx hb dJ16_getChars_154 ?_
                refine g_topi (v := (nI o)) ?_ ?_
                · skip
                  rw [iI_neg, nI_iI]
                  congr 1
                  omega
                refine gw_bald hx hb hal (hd.cur hS).2.1.1 o (rfl) (by omega) (by omega) dJ16_getChars_155 ?_
                refine gw_bast (f := (ovl f c9 T2)) hx hb hal hbf hS (rfl) (c9 - 1) (rfl) (by omega) (by omega) dJ16_getChars_156 (fun H_13 locs h_new hch hS => ?_)
                clear hch
                have hbf : gI z w .byte H_13 b n (upd (ovl f c9 T2) (c9 - 1) (((kOnes o)).toInt8.toInt32)) := h_new
                have e_fit : (upd (ovl f c9 T2) (c9 - 1) (((kOnes o)).toInt8.toInt32)) = (ovl f (c9 - 1) ((48 + o % 10) :: T2)) := by
                  exact ovl_put (by omega) (kO8 (by omega))
                replace hbf : gI z w .byte H_13 b n (ovl f (c9 - 1) ((48 + o % 10) :: T2)) := by
                  rw [← e_fit]
                  exact hbf
                clear e_fit
                refine lv_iload hx hb dJ16_getChars_157 (lv_at hl 1 rfl) ?_
                refine lv_bipush (v := -9) hx hb dJ16_getChars_159 (by decide) ?_
                refine lv_icmp_ge (tgt := 178) hx hb dJ16_getChars_161 (by decide) (fun c_161 => ?_) (fun c_161 => ?_)
                · skip
                  have hu9 : o < 10 := by
                    rw [Int32.le_iff_toInt_le, show (-9 : Int32) = iI (-9) from by decide, iI_toInt (by omega) (by omega), iI_toInt (by omega) (by omega)] at c_161
                    omega
                  have hn1 := nd_lt hu9
                  have e_fit : (ovl f (c9 - 1) ((48 + o % 10) :: T2)) = (ovl f (c9 - 1) (dg v.natAbs)) := by
                    rw [hT2, dg_lt hu9, show o % 10 = o by omega]
                    rfl
                  replace hbf : gI z w .byte H_13 b n (ovl f (c9 - 1) (dg v.natAbs)) := by
                    rw [← e_fit]
                    exact hbf
                  clear e_fit
                  refine lv_iload hx hb dJ16_getChars_178 (lv_at hl 2 rfl) ?_
                  refine lv_if_eq (tgt := 192) hx hb dJ16_getChars_180 (by decide) (fun c_180 => ?_) (fun c_180 => ?_)
                  · skip
                    have hm0 : mn v = 0 := by
                      have q := congrArg Int32.toInt c_180
                      have := mn_b v
                      rw [nI_toInt (by omega)] at q
                      have e0 : (0 : Int32).toInt = 0 := by decide
                      omega
                    have hv0 : ¬ v < 0 := by unfold mn at hm0; split at hm0 <;> omega
                    refine lv_iload hx hb dJ16_getChars_192 (lv_at hl 0 rfl) ?_
                    refine g_iret hx hb hr hlocks hS (Nat.le_of_ble_eq_true rfl) (Nat.le_of_ble_eq_true rfl) ?_ dJ16_getChars_194
                    rw [show x - (nd v.natAbs + mn v) = c9 - 1 by omega]
                    exact ⟨rfl, by rw [show sdg v = dg v.natAbs by unfold sdg; rw [if_neg hv0]; rfl]; exact hbf⟩
                  · skip
                    have hm0 : mn v = 1 := by
                      have := mn_b v
                      refine Decidable.byContradiction fun q => c_180 ?_
                      rw [show mn v = 0 by omega]
                      rfl
                    have hv0 : v < 0 := by unfold mn at hm0; split at hm0 <;> omega
                    refine lv_aload_n hx hb dJ16_getChars_183 rfl (lv_at hl 5 rfl) ?_
                    refine lv_iinc (k := 0) (v := (nI (c9 - 1 - 1))) hx hb dJ16_getChars_184 hl rfl (by rw [show Int32.ofInt (-1) = iI (-1) from rfl, nI_iI, iI_add, nI_iI]; congr 1; omega) (by decide) rfl (fun ls hl => ?_)
                    have hl : lv_has ls 11 [(7, .int (nI (c9 - 1 - 1))), (10, .int (iI (-(o : Int)))), (8, .int (nI (mn v))), (0, .long (lI (-(u : Int)))), (2, .int (nI x)), (3, .ref b)] := hl
                    refine lv_iload hx hb dJ16_getChars_187 (lv_at hl 0 rfl) ?_
                    refine lv_bipush (v := 45) hx hb dJ16_getChars_189 (by decide) ?_
                    refine gw_bast (f := (ovl f (c9 - 1) (dg v.natAbs))) hx hb hal hbf hS (rfl) (c9 - 1 - 1) (rfl) (by omega) (by omega) dJ16_getChars_191 (fun H_14 locs h_new hch hS => ?_)
                    clear hch
                    have hbf : gI z w .byte H_14 b n (upd (ovl f (c9 - 1) (dg v.natAbs)) (c9 - 1 - 1) ((45 : Int32).toInt8.toInt32)) := h_new
                    refine lv_iload hx hb dJ16_getChars_192 (lv_at hl 0 rfl) ?_
                    refine g_iret hx hb hr hlocks hS (Nat.le_of_ble_eq_true rfl) (Nat.le_of_ble_eq_true rfl) ?_ dJ16_getChars_194
                    rw [ovl_put (p := c9 - 1) (q := c9 - 1 - 1) (d := 45) (by omega) (by decide)] at hbf
                    rw [show x - (nd v.natAbs + mn v) = c9 - 1 - 1 by omega]
                    exact ⟨rfl, by rw [show sdg v = 45 :: dg v.natAbs by unfold sdg; rw [if_pos hv0]; rfl]; exact hbf⟩
                · skip
                  have hu9 : 10 ≤ o := by
                    refine Decidable.byContradiction fun q => c_161 ?_
                    rw [Int32.le_iff_toInt_le, show (-9 : Int32) = iI (-9) from by decide, iI_toInt (by omega) (by omega), iI_toInt (by omega) (by omega)]
                    omega
                  have hn1 : nd o = 2 := by rw [nd_ge hu9, nd_lt (by omega)]
                  refine lv_aload_n hx hb dJ16_getChars_164 rfl (lv_at hl 5 rfl) ?_
                  refine lv_iinc (k := 0) (v := (nI (c9 - 1 - 1))) hx hb dJ16_getChars_165 hl rfl (by rw [show Int32.ofInt (-1) = iI (-1) from rfl, nI_iI, iI_add, nI_iI]; congr 1; omega) (by decide) rfl (fun ls hl => ?_)
                  have hl : lv_has ls 11 [(7, .int (nI (c9 - 1 - 1))), (10, .int (iI (-(o : Int)))), (8, .int (nI (mn v))), (0, .long (lI (-(u : Int)))), (2, .int (nI x)), (3, .ref b)] := hl
                  refine lv_iload hx hb dJ16_getChars_168 (lv_at hl 0 rfl) ?_
                  refine gw_gets  hx hb hal hd.1.2 hS hown (hts _ q410) (fun _ h9 => h9) dJ16_getChars_170 ?_
                  refine lv_iload hx hb dJ16_getChars_173 (lv_at hl 1 rfl) ?_
                  refine lv_ineg hx hb dJ16_getChars_175 ?_
                  refine g_topi (v := (nI o)) ?_ ?_
                  · skip
                    rw [iI_neg, nI_iI]
                    congr 1
                    omega
                  refine gw_bald hx hb hal (hd.cur hS).2.1.2 o (rfl) (by omega) (by omega) dJ16_getChars_176 ?_
                  refine gw_bast (f := (ovl f (c9 - 1) ((48 + o % 10) :: T2))) hx hb hal hbf hS (rfl) (c9 - 1 - 1) (rfl) (by omega) (by omega) dJ16_getChars_177 (fun H_15 locs h_new hch hS => ?_)
                  clear hch
                  have hbf : gI z w .byte H_15 b n (upd (ovl f (c9 - 1) ((48 + o % 10) :: T2)) (c9 - 1 - 1) (((kTens o)).toInt8.toInt32)) := h_new
                  have e_fit : (upd (ovl f (c9 - 1) ((48 + o % 10) :: T2)) (c9 - 1 - 1) (((kTens o)).toInt8.toInt32)) = (ovl f (c9 - 1 - 1) (dg v.natAbs)) := by
                    rw [ovl_put (p := c9 - 1) (q := c9 - 1 - 1) (d := 48 + o / 10) (by omega) (kT8 (by omega)), hT2, dg_ge hu9, dg_lt (by omega)]
                    rfl
                  replace hbf : gI z w .byte H_15 b n (ovl f (c9 - 1 - 1) (dg v.natAbs)) := by
                    rw [← e_fit]
                    exact hbf
                  clear e_fit
                  refine lv_iload hx hb dJ16_getChars_178 (lv_at hl 2 rfl) ?_
                  refine lv_if_eq (tgt := 192) hx hb dJ16_getChars_180 (by decide) (fun c_180 => ?_) (fun c_180 => ?_)
                  · skip
                    have hm0 : mn v = 0 := by
                      have q := congrArg Int32.toInt c_180
                      have := mn_b v
                      rw [nI_toInt (by omega)] at q
                      have e0 : (0 : Int32).toInt = 0 := by decide
                      omega
                    have hv0 : ¬ v < 0 := by unfold mn at hm0; split at hm0 <;> omega
                    refine lv_iload hx hb dJ16_getChars_192 (lv_at hl 0 rfl) ?_
                    refine g_iret hx hb hr hlocks hS (Nat.le_of_ble_eq_true rfl) (Nat.le_of_ble_eq_true rfl) ?_ dJ16_getChars_194
                    rw [show x - (nd v.natAbs + mn v) = c9 - 1 - 1 by omega]
                    exact ⟨rfl, by rw [show sdg v = dg v.natAbs by unfold sdg; rw [if_neg hv0]; rfl]; exact hbf⟩
                  · skip
                    have hm0 : mn v = 1 := by
                      have := mn_b v
                      refine Decidable.byContradiction fun q => c_180 ?_
                      rw [show mn v = 0 by omega]
                      rfl
                    have hv0 : v < 0 := by unfold mn at hm0; split at hm0 <;> omega
                    refine lv_aload_n hx hb dJ16_getChars_183 rfl (lv_at hl 5 rfl) ?_
                    refine lv_iinc (k := 0) (v := (nI (c9 - 1 - 1 - 1))) hx hb dJ16_getChars_184 hl rfl (by rw [show Int32.ofInt (-1) = iI (-1) from rfl, nI_iI, iI_add, nI_iI]; congr 1; omega) (by decide) rfl (fun ls hl => ?_)
                    have hl : lv_has ls 11 [(7, .int (nI (c9 - 1 - 1 - 1))), (10, .int (iI (-(o : Int)))), (8, .int (nI (mn v))), (0, .long (lI (-(u : Int)))), (2, .int (nI x)), (3, .ref b)] := hl
                    refine lv_iload hx hb dJ16_getChars_187 (lv_at hl 0 rfl) ?_
                    refine lv_bipush (v := 45) hx hb dJ16_getChars_189 (by decide) ?_
                    refine gw_bast (f := (ovl f (c9 - 1 - 1) (dg v.natAbs))) hx hb hal hbf hS (rfl) (c9 - 1 - 1 - 1) (rfl) (by omega) (by omega) dJ16_getChars_191 (fun H_16 locs h_new hch hS => ?_)
                    clear hch
                    have hbf : gI z w .byte H_16 b n (upd (ovl f (c9 - 1 - 1) (dg v.natAbs)) (c9 - 1 - 1 - 1) ((45 : Int32).toInt8.toInt32)) := h_new
                    refine lv_iload hx hb dJ16_getChars_192 (lv_at hl 0 rfl) ?_
                    refine g_iret hx hb hr hlocks hS (Nat.le_of_ble_eq_true rfl) (Nat.le_of_ble_eq_true rfl) ?_ dJ16_getChars_194
                    rw [ovl_put (p := c9 - 1 - 1) (q := c9 - 1 - 1 - 1) (d := 45) (by omega) (by decide)] at hbf
                    rw [show x - (nd v.natAbs + mn v) = c9 - 1 - 1 - 1 by omega]
                    exact ⟨rfl, by rw [show sdg v = 45 :: dg v.natAbs by unfold sdg; rw [if_pos hv0]; rfl]; exact hbf⟩
              · skip
                have ho1 : 100 ≤ o := by
                  refine Decidable.byContradiction fun q => c_90 ?_
                  rw [Int32.lt_iff_toInt_lt, show (-100 : Int32) = iI (-100) from by decide, iI_toInt (by omega) (by omega), iI_toInt (by omega) (by omega)]
                  omega
                have hnd : nd v.natAbs = nd o + T2.length := by unfold nd; rw [hT2, List.length_append]
                have hn2 := nd_two ho1
                have hnp := nd_pos (o / 100)
                refine lv_iload hx hb dJ16_getChars_93 (lv_at hl 0 rfl) ?_
                refine lv_bipush (v := 100) hx hb dJ16_getChars_95 (by decide) ?_
                refine lv_idiv hx hb dJ16_getChars_97 (by decide) ?_
                refine g_topi (v := (iI (-((o / 100 : Nat) : Int)))) ?_ ?_
                · skip
                  rw [show (100 : Int32) = iI 100 from by decide, iI_div (by omega) (by omega) (by omega) (by omega), tdiv_100]
                refine lv_istore hx hb dJ16_getChars_98 hl (by decide) rfl (fun ls hl => ?_)
                have hl : lv_has ls 11 [(9, .int (iI (-((o / 100 : Nat) : Int)))), (10, .int (iI (-(o : Int)))), (8, .int (nI (mn v))), (7, .int (nI c9)), (0, .long (lI (-(u : Int)))), (2, .int (nI x)), (3, .ref b)] := hl
                refine lv_iload hx hb dJ16_getChars_100 (lv_at hl 0 rfl) ?_
                refine lv_bipush (v := 100) hx hb dJ16_getChars_102 (by decide) ?_
                refine lv_imul hx hb dJ16_getChars_104 ?_
                refine lv_iload hx hb dJ16_getChars_105 (lv_at hl 1 rfl) ?_
                refine lv_isub hx hb dJ16_getChars_107 ?_
                refine g_topi (v := (nI (o % 100))) ?_ ?_
                · skip
                  rw [show (100 : Int32) = iI 100 from by decide, iI_mul, iI_sub, nI_iI]
                  congr 1
                  omega
                refine lv_istore hx hb dJ16_getChars_108 hl (by decide) rfl (fun ls hl => ?_)
                have hl : lv_has ls 11 [(6, .int (nI (o % 100))), (9, .int (iI (-((o / 100 : Nat) : Int)))), (10, .int (iI (-(o : Int)))), (8, .int (nI (mn v))), (7, .int (nI c9)), (0, .long (lI (-(u : Int)))), (2, .int (nI x)), (3, .ref b)] := hl
                refine lv_iload hx hb dJ16_getChars_110 (lv_at hl 1 rfl) ?_
                refine lv_istore hx hb dJ16_getChars_112 hl (by decide) rfl (fun ls hl => ?_)
                have hl : lv_has ls 11 [(10, .int (iI (-((o / 100 : Nat) : Int)))), (6, .int (nI (o % 100))), (9, .int (iI (-((o / 100 : Nat) : Int)))), (8, .int (nI (mn v))), (7, .int (nI c9)), (0, .long (lI (-(u : Int)))), (2, .int (nI x)), (3, .ref b)] := hl
                refine lv_aload_n hx hb dJ16_getChars_114 rfl (lv_at hl 7 rfl) ?_
                refine lv_iinc (k := 4) (v := (nI (c9 - 1))) hx hb dJ16_getChars_115 hl rfl (by rw [show Int32.ofInt (-1) = iI (-1) from rfl, nI_iI, iI_add, nI_iI]; congr 1; omega) (by decide) rfl (fun ls hl => ?_)
                have hl : lv_has ls 11 [(7, .int (nI (c9 - 1))), (10, .int (iI (-((o / 100 : Nat) : Int)))), (6, .int (nI (o % 100))), (9, .int (iI (-((o / 100 : Nat) : Int)))), (8, .int (nI (mn v))), (0, .long (lI (-(u : Int)))), (2, .int (nI x)), (3, .ref b)] := hl
                refine lv_iload hx hb dJ16_getChars_118 (lv_at hl 0 rfl) ?_
                refine gw_gets  hx hb hal hd.1.1 hS hown (hts _ q408) (fun _ h9 => h9) dJ16_getChars_120 ?_
                refine lv_iload hx hb dJ16_getChars_123 (lv_at hl 2 rfl) ?_
                refine gw_bald hx hb hal (hd.cur hS).2.1.1 (o % 100) (rfl) (by omega) (by omega) dJ16_getChars_125 ?_
                refine gw_bast (f := (ovl f c9 T2)) hx hb hal hbf hS (rfl) (c9 - 1) (rfl) (by omega) (by omega) dJ16_getChars_126 (fun H_17 locs h_new hch hS => ?_)
                clear hch
                have hbf : gI z w .byte H_17 b n (upd (ovl f c9 T2) (c9 - 1) (((kOnes (o % 100))).toInt8.toInt32)) := h_new
                refine lv_aload_n hx hb dJ16_getChars_127 rfl (lv_at hl 7 rfl) ?_
                refine lv_iinc (k := 0) (v := (nI (c9 - 1 - 1))) hx hb dJ16_getChars_128 hl rfl (by rw [show Int32.ofInt (-1) = iI (-1) from rfl, nI_iI, iI_add, nI_iI]; congr 1; omega) (by decide) rfl (fun ls hl => ?_)
                have hl : lv_has ls 11 [(7, .int (nI (c9 - 1 - 1))), (10, .int (iI (-((o / 100 : Nat) : Int)))), (6, .int (nI (o % 100))), (9, .int (iI (-((o / 100 : Nat) : Int)))), (8, .int (nI (mn v))), (0, .long (lI (-(u : Int)))), (2, .int (nI x)), (3, .ref b)] := hl
                refine lv_iload hx hb dJ16_getChars_131 (lv_at hl 0 rfl) ?_
                refine gw_gets  hx hb hal hd.1.2 hS hown (hts _ q410) (fun _ h9 => h9) dJ16_getChars_133 ?_
                refine lv_iload hx hb dJ16_getChars_136 (lv_at hl 2 rfl) ?_
                refine gw_bald hx hb hal (hd.cur hS).2.1.2 (o % 100) (rfl) (by omega) (by omega) dJ16_getChars_138 ?_
                refine gw_bast (f := (upd (ovl f c9 T2) (c9 - 1) (((kOnes (o % 100))).toInt8.toInt32))) hx hb hal hbf hS (rfl) (c9 - 1 - 1) (rfl) (by omega) (by omega) dJ16_getChars_139 (fun H_18 locs h_new hch hS => ?_)
                clear hch
                have hbf : gI z w .byte H_18 b n (upd (upd (ovl f c9 T2) (c9 - 1) (((kOnes (o % 100))).toInt8.toInt32)) (c9 - 1 - 1) (((kTens (o % 100))).toInt8.toInt32)) := h_new
                have e_fit : (upd (upd (ovl f c9 T2) (c9 - 1) (((kOnes (o % 100))).toInt8.toInt32)) (c9 - 1 - 1) (((kTens (o % 100))).toInt8.toInt32)) = (ovl f (c9 - 1 - 1) ((48 + o % 100 / 10) :: (48 + o % 100 % 10) :: T2)) := by
                  rw [ovl_put (p := c9) (q := c9 - 1) (d := 48 + o % 100 % 10) (by omega) (kO8 (by omega)), ovl_put (p := c9 - 1) (q := c9 - 1 - 1) (d := 48 + o % 100 / 10) (by omega) (kT8 (by omega))]
                replace hbf : gI z w .byte H_18 b n (ovl f (c9 - 1 - 1) ((48 + o % 100 / 10) :: (48 + o % 100 % 10) :: T2)) := by
                  rw [← e_fit]
                  exact hbf
                clear e_fit
                refine lv_goto (tgt := 86) hx hb dJ16_getChars_140 (by decide) ?_
                exact ih_loopB (o / 100) ((48 + o % 100 / 10) :: (48 + o % 100 % 10) :: T2) (c9 - 1 - 1) (by omega) (by rw [hT2, dg_two ho1, List.append_assoc]; rfl) (by simp only [List.length_cons]; omega) (by omega) H_18 _ hS hbf ls (lv_sub hl [1, 4, 0, 5, 6, 7] rfl)
          exact loopB _ u T t hu1 hT ht (Nat.lt_succ_self _) H_11 _ hS hbf ls (lv_sub hl [0, 1, 2, 3, 4, 5] rfl)
        · skip
          have hu1 : 100 ≤ u := by
            refine Decidable.byContradiction fun q => c_29 (lc_gt.mpr ?_)
            rw [lI_toInt (by omega) (by omega), show (-2147483648 : Int64) = lI (-2147483648) from by decide, lI_toInt (by omega) (by omega)]
            omega
          have hnd : nd v.natAbs = nd u + T.length := by unfold nd; rw [hT, List.length_append]
          have hn2 := nd_two hu1
          have hnp := nd_pos (u / 100)
          refine lv_lload_n hx hb dJ16_getChars_32 rfl (lv_at hl 2 rfl) ?_
          refine lv_ldc2 (v := 100) hx hb hown (hts _ q407) dJ16_getChars_33 ?_
          refine lv_ldiv hx hb dJ16_getChars_36 (by decide) ?_
          refine g_topl (v := (lI (-((u / 100 : Nat) : Int)))) ?_ ?_
          · skip
            rw [show (100 : Int64) = lI 100 from by decide, lI_div (by omega) (by omega) (by omega) (by omega), tdiv_100]
          refine lv_lstore hx hb dJ16_getChars_37 hl (by decide) rfl (fun ls hl => ?_)
          have hl : lv_has ls 11 [(4, .long (lI (-((u / 100 : Nat) : Int)))), (8, .int (nI (mn v))), (7, .int (nI t)), (0, .long (lI (-(u : Int)))), (2, .int (nI x)), (3, .ref b)] := hl
          refine lv_lload hx hb dJ16_getChars_39 (lv_at hl 0 rfl) ?_
          refine lv_ldc2 (v := 100) hx hb hown (hts _ q407) dJ16_getChars_41 ?_
          refine lv_lmul hx hb dJ16_getChars_44 ?_
          refine lv_lload_n hx hb dJ16_getChars_45 rfl (lv_at hl 3 rfl) ?_
          refine lv_lsub hx hb dJ16_getChars_46 ?_
          refine g_topl (v := (lI ((u % 100 : Nat) : Int))) ?_ ?_
          · skip
            rw [show (100 : Int64) = lI 100 from by decide, lI_mul, lI_sub]
            congr 1
            omega
          refine lv_l2i hx hb dJ16_getChars_47 rfl ?_
          refine g_topi (v := (nI (u % 100))) ?_ ?_
          · skip
            rw [lI_i32]
            rfl
          refine lv_istore hx hb dJ16_getChars_48 hl (by decide) rfl (fun ls hl => ?_)
          have hl : lv_has ls 11 [(6, .int (nI (u % 100))), (4, .long (lI (-((u / 100 : Nat) : Int)))), (8, .int (nI (mn v))), (7, .int (nI t)), (0, .long (lI (-(u : Int)))), (2, .int (nI x)), (3, .ref b)] := hl
          refine lv_lload hx hb dJ16_getChars_50 (lv_at hl 1 rfl) ?_
          refine lv_lstore_n hx hb dJ16_getChars_52 rfl hl (by decide) rfl (fun ls hl => ?_)
          have hl : lv_has ls 11 [(0, .long (lI (-((u / 100 : Nat) : Int)))), (6, .int (nI (u % 100))), (4, .long (lI (-((u / 100 : Nat) : Int)))), (8, .int (nI (mn v))), (7, .int (nI t)), (2, .int (nI x)), (3, .ref b)] := hl
          refine lv_aload_n hx hb dJ16_getChars_53 rfl (lv_at hl 6 rfl) ?_
          refine lv_iinc (k := 4) (v := (nI (t - 1))) hx hb dJ16_getChars_54 hl rfl (by rw [show Int32.ofInt (-1) = iI (-1) from rfl, nI_iI, iI_add, nI_iI]; congr 1; omega) (by decide) rfl (fun ls hl => ?_)
          have hl : lv_has ls 11 [(7, .int (nI (t - 1))), (0, .long (lI (-((u / 100 : Nat) : Int)))), (6, .int (nI (u % 100))), (4, .long (lI (-((u / 100 : Nat) : Int)))), (8, .int (nI (mn v))), (2, .int (nI x)), (3, .ref b)] := hl
          refine lv_iload hx hb dJ16_getChars_57 (lv_at hl 0 rfl) ?_
          refine gw_gets  hx hb hal hd.1.1 hS hown (hts _ q408) (fun _ h9 => h9) dJ16_getChars_59 ?_
          refine lv_iload hx hb dJ16_getChars_62 (lv_at hl 2 rfl) ?_
          refine gw_bald hx hb hal (hd.cur hS).2.1.1 (u % 100) (rfl) (by omega) (by omega) dJ16_getChars_64 ?_
          refine gw_bast (f := (ovl f t T)) hx hb hal hbf hS (rfl) (t - 1) (rfl) (by omega) (by omega) dJ16_getChars_65 (fun H_19 locs h_new hch hS => ?_)
          clear hch
          have hbf : gI z w .byte H_19 b n (upd (ovl f t T) (t - 1) (((kOnes (u % 100))).toInt8.toInt32)) := h_new
          refine lv_aload_n hx hb dJ16_getChars_66 rfl (lv_at hl 6 rfl) ?_
          refine lv_iinc (k := 0) (v := (nI (t - 1 - 1))) hx hb dJ16_getChars_67 hl rfl (by rw [show Int32.ofInt (-1) = iI (-1) from rfl, nI_iI, iI_add, nI_iI]; congr 1; omega) (by decide) rfl (fun ls hl => ?_)
          have hl : lv_has ls 11 [(7, .int (nI (t - 1 - 1))), (0, .long (lI (-((u / 100 : Nat) : Int)))), (6, .int (nI (u % 100))), (4, .long (lI (-((u / 100 : Nat) : Int)))), (8, .int (nI (mn v))), (2, .int (nI x)), (3, .ref b)] := hl
          refine lv_iload hx hb dJ16_getChars_70 (lv_at hl 0 rfl) ?_
          refine gw_gets  hx hb hal hd.1.2 hS hown (hts _ q410) (fun _ h9 => h9) dJ16_getChars_72 ?_
          refine lv_iload hx hb dJ16_getChars_75 (lv_at hl 2 rfl) ?_
          refine gw_bald hx hb hal (hd.cur hS).2.1.2 (u % 100) (rfl) (by omega) (by omega) dJ16_getChars_77 ?_
          refine gw_bast (f := (upd (ovl f t T) (t - 1) (((kOnes (u % 100))).toInt8.toInt32))) hx hb hal hbf hS (rfl) (t - 1 - 1) (rfl) (by omega) (by omega) dJ16_getChars_78 (fun H_20 locs h_new hch hS => ?_)
          clear hch
          have hbf : gI z w .byte H_20 b n (upd (upd (ovl f t T) (t - 1) (((kOnes (u % 100))).toInt8.toInt32)) (t - 1 - 1) (((kTens (u % 100))).toInt8.toInt32)) := h_new
          have e_fit : (upd (upd (ovl f t T) (t - 1) (((kOnes (u % 100))).toInt8.toInt32)) (t - 1 - 1) (((kTens (u % 100))).toInt8.toInt32)) = (ovl f (t - 1 - 1) ((48 + u % 100 / 10) :: (48 + u % 100 % 10) :: T)) := by
            rw [ovl_put (p := t) (q := t - 1) (d := 48 + u % 100 % 10) (by omega) (kO8 (by omega)), ovl_put (p := t - 1) (q := t - 1 - 1) (d := 48 + u % 100 / 10) (by omega) (kT8 (by omega))]
          replace hbf : gI z w .byte H_20 b n (ovl f (t - 1 - 1) ((48 + u % 100 / 10) :: (48 + u % 100 % 10) :: T)) := by
            rw [← e_fit]
            exact hbf
          clear e_fit
          refine lv_goto (tgt := 24) hx hb dJ16_getChars_79 (by decide) ?_
          exact ih_loopA (u / 100) ((48 + u % 100 / 10) :: (48 + u % 100 % 10) :: T) (t - 1 - 1) (by omega) (by rw [hT, dg_two hu1, List.append_assoc]; rfl) (by simp only [List.length_cons]; omega) (by omega) H_20 _ hS hbf ls (lv_sub hl [4, 0, 1, 5, 6] rfl)
    exact loopA _ v.natAbs [] x (Nat.le_refl _) ((List.append_nil _).symm) rfl (Nat.lt_succ_self _) H0 _ hS hbf ls (lv_sub hl [0, 1, 2, 3, 4] rfl)
