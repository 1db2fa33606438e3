/-! ## walks (written by tools) -/
set_option maxRecDepth 100000
def dkwJ22_multiplyByInt_5 : List UInt8 := [58, 4, 167, 0, 11, 25, 4, 21, 9, 22, 5, 136, 79, 187, 0, 23, 89, 25, 4, 28, 183, 0, 175, 176]
abbrev dktJ22_multiplyByInt_5 : List UInt8 := dkwJ22_multiplyByInt_5 ++ []
def dkwJ22_multiplyByInt_4 : List UInt8 := [55, 5, 132, 10, 255, 167, 255, 213, 22, 5, 9, 148, 154, 0, 17, 25, 4, 4, 25, 4, 190, 184, 1, 177]
abbrev dktJ22_multiplyByInt_4 : List UInt8 := dkwJ22_multiplyByInt_4 ++ dktJ22_multiplyByInt_5
def dkwJ22_multiplyByInt_3 : List UInt8 := [22, 7, 105, 22, 5, 97, 55, 11, 25, 4, 21, 9, 132, 9, 255, 22, 11, 136, 79, 22, 11, 16, 32, 125]
abbrev dktJ22_multiplyByInt_3 : List UInt8 := dkwJ22_multiplyByInt_3 ++ dktJ22_multiplyByInt_4
def dkwJ22_multiplyByInt_2 : List UInt8 := [190, 4, 100, 54, 9, 29, 4, 100, 54, 10, 21, 10, 155, 0, 44, 42, 21, 10, 46, 133, 20, 0, 130, 127]
abbrev dktJ22_multiplyByInt_2 : List UInt8 := dkwJ22_multiplyByInt_2 ++ dktJ22_multiplyByInt_3
def dkwJ22_multiplyByInt_1 : List UInt8 := [176, 42, 190, 62, 29, 4, 96, 188, 10, 58, 4, 9, 55, 5, 27, 133, 20, 0, 130, 127, 55, 7, 25, 4]
abbrev dktJ22_multiplyByInt_1 : List UInt8 := dkwJ22_multiplyByInt_1 ++ dktJ22_multiplyByInt_2
def dkwJ22_multiplyByInt_0 : List UInt8 := [27, 184, 1, 167, 4, 160, 0, 20, 187, 0, 23, 89, 42, 27, 184, 1, 170, 184, 1, 173, 28, 183, 0, 175]
abbrev dktJ22_multiplyByInt_0 : List UInt8 := dkwJ22_multiplyByInt_0 ++ dktJ22_multiplyByInt_1
theorem dksJ22_multiplyByInt_0 : cJ22_multiplyByInt.data.toList.drop 0 = dktJ22_multiplyByInt_0 := by decide +kernel
theorem dksJ22_multiplyByInt_1 : cJ22_multiplyByInt.data.toList.drop 24 = dktJ22_multiplyByInt_1 := dk_seg dksJ22_multiplyByInt_0 24 rfl rfl
theorem dksJ22_multiplyByInt_2 : cJ22_multiplyByInt.data.toList.drop 48 = dktJ22_multiplyByInt_2 := dk_seg dksJ22_multiplyByInt_1 24 rfl rfl
theorem dksJ22_multiplyByInt_3 : cJ22_multiplyByInt.data.toList.drop 72 = dktJ22_multiplyByInt_3 := dk_seg dksJ22_multiplyByInt_2 24 rfl rfl
theorem dksJ22_multiplyByInt_4 : cJ22_multiplyByInt.data.toList.drop 96 = dktJ22_multiplyByInt_4 := dk_seg dksJ22_multiplyByInt_3 24 rfl rfl
theorem dksJ22_multiplyByInt_5 : cJ22_multiplyByInt.data.toList.drop 120 = dktJ22_multiplyByInt_5 := dk_seg dksJ22_multiplyByInt_4 24 rfl rfl
theorem dJ22_multiplyByInt_0 : decode cJ22_multiplyByInt 0 = .ok (.iload_n 1, 1) := dk_27 (dk_at dksJ22_multiplyByInt_0 0 rfl rfl)
theorem dJ22_multiplyByInt_1 : decode cJ22_multiplyByInt 1 = .ok (.invokestatic 423, 3) := dk_184 1 167 (dk_at dksJ22_multiplyByInt_0 1 rfl rfl)
theorem dJ22_multiplyByInt_4 : decode cJ22_multiplyByInt 4 = .ok (.iconst 1, 1) := dk_4 (dk_at dksJ22_multiplyByInt_0 4 rfl rfl)
theorem dJ22_multiplyByInt_5 : decode cJ22_multiplyByInt 5 = .ok (.if_icmp .ne 20, 3) := dk_160 0 20 (dk_at dksJ22_multiplyByInt_0 5 rfl rfl)
theorem dJ22_multiplyByInt_8 : decode cJ22_multiplyByInt 8 = .ok (.new 23, 3) := dk_187 0 23 (dk_at dksJ22_multiplyByInt_0 8 rfl rfl)
theorem dJ22_multiplyByInt_11 : decode cJ22_multiplyByInt 11 = .ok (.dup, 1) := dk_89 (dk_at dksJ22_multiplyByInt_0 11 rfl rfl)
theorem dJ22_multiplyByInt_12 : decode cJ22_multiplyByInt 12 = .ok (.aload_n 0, 1) := dk_42 (dk_at dksJ22_multiplyByInt_0 12 rfl rfl)
theorem dJ22_multiplyByInt_13 : decode cJ22_multiplyByInt 13 = .ok (.iload_n 1, 1) := dk_27 (dk_at dksJ22_multiplyByInt_0 13 rfl rfl)
theorem dJ22_multiplyByInt_14 : decode cJ22_multiplyByInt 14 = .ok (.invokestatic 426, 3) := dk_184 1 170 (dk_at dksJ22_multiplyByInt_0 14 rfl rfl)
theorem dJ22_multiplyByInt_17 : decode cJ22_multiplyByInt 17 = .ok (.invokestatic 429, 3) := dk_184 1 173 (dk_at dksJ22_multiplyByInt_0 17 rfl rfl)
theorem dJ22_multiplyByInt_20 : decode cJ22_multiplyByInt 20 = .ok (.iload_n 2, 1) := dk_28 (dk_at dksJ22_multiplyByInt_0 20 rfl rfl)
theorem dJ22_multiplyByInt_21 : decode cJ22_multiplyByInt 21 = .ok (.invokespecial 175, 3) := dk_183 0 175 (dk_at dksJ22_multiplyByInt_0 21 rfl rfl)
theorem dJ22_multiplyByInt_24 : decode cJ22_multiplyByInt 24 = .ok (.areturn, 1) := dk_176 (dk_at dksJ22_multiplyByInt_1 0 rfl rfl)
theorem dJ22_multiplyByInt_25 : decode cJ22_multiplyByInt 25 = .ok (.aload_n 0, 1) := dk_42 (dk_at dksJ22_multiplyByInt_1 1 rfl rfl)
theorem dJ22_multiplyByInt_26 : decode cJ22_multiplyByInt 26 = .ok (.arraylength, 1) := dk_190 (dk_at dksJ22_multiplyByInt_1 2 rfl rfl)
theorem dJ22_multiplyByInt_27 : decode cJ22_multiplyByInt 27 = .ok (.istore_n 3, 1) := dk_62 (dk_at dksJ22_multiplyByInt_1 3 rfl rfl)
theorem dJ22_multiplyByInt_28 : decode cJ22_multiplyByInt 28 = .ok (.iload_n 3, 1) := dk_29 (dk_at dksJ22_multiplyByInt_1 4 rfl rfl)
theorem dJ22_multiplyByInt_29 : decode cJ22_multiplyByInt 29 = .ok (.iconst 1, 1) := dk_4 (dk_at dksJ22_multiplyByInt_1 5 rfl rfl)
theorem dJ22_multiplyByInt_30 : decode cJ22_multiplyByInt 30 = .ok (.iadd, 1) := dk_96 (dk_at dksJ22_multiplyByInt_1 6 rfl rfl)
theorem dJ22_multiplyByInt_31 : decode cJ22_multiplyByInt 31 = .ok (.newarray .int, 2) := dk_188_10 (dk_at dksJ22_multiplyByInt_1 7 rfl rfl)
theorem dJ22_multiplyByInt_33 : decode cJ22_multiplyByInt 33 = .ok (.astore 4, 2) := dk_58 4 (dk_at dksJ22_multiplyByInt_1 9 rfl rfl)
theorem dJ22_multiplyByInt_35 : decode cJ22_multiplyByInt 35 = .ok (.lconst 0, 1) := dk_9 (dk_at dksJ22_multiplyByInt_1 11 rfl rfl)
theorem dJ22_multiplyByInt_36 : decode cJ22_multiplyByInt 36 = .ok (.lstore 5, 2) := dk_55 5 (dk_at dksJ22_multiplyByInt_1 12 rfl rfl)
theorem dJ22_multiplyByInt_38 : decode cJ22_multiplyByInt 38 = .ok (.iload_n 1, 1) := dk_27 (dk_at dksJ22_multiplyByInt_1 14 rfl rfl)
theorem dJ22_multiplyByInt_39 : decode cJ22_multiplyByInt 39 = .ok (.i2l, 1) := dk_133 (dk_at dksJ22_multiplyByInt_1 15 rfl rfl)
theorem dJ22_multiplyByInt_40 : decode cJ22_multiplyByInt 40 = .ok (.ldc2_w 130, 3) := dk_20 0 130 (dk_at dksJ22_multiplyByInt_1 16 rfl rfl)
theorem dJ22_multiplyByInt_43 : decode cJ22_multiplyByInt 43 = .ok (.land, 1) := dk_127 (dk_at dksJ22_multiplyByInt_1 19 rfl rfl)
theorem dJ22_multiplyByInt_44 : decode cJ22_multiplyByInt 44 = .ok (.lstore 7, 2) := dk_55 7 (dk_at dksJ22_multiplyByInt_1 20 rfl rfl)
theorem dJ22_multiplyByInt_46 : decode cJ22_multiplyByInt 46 = .ok (.aload 4, 2) := dk_25 4 (dk_at dksJ22_multiplyByInt_1 22 rfl rfl)
theorem dJ22_multiplyByInt_48 : decode cJ22_multiplyByInt 48 = .ok (.arraylength, 1) := dk_190 (dk_at dksJ22_multiplyByInt_2 0 rfl rfl)
theorem dJ22_multiplyByInt_49 : decode cJ22_multiplyByInt 49 = .ok (.iconst 1, 1) := dk_4 (dk_at dksJ22_multiplyByInt_2 1 rfl rfl)
theorem dJ22_multiplyByInt_50 : decode cJ22_multiplyByInt 50 = .ok (.isub, 1) := dk_100 (dk_at dksJ22_multiplyByInt_2 2 rfl rfl)
theorem dJ22_multiplyByInt_51 : decode cJ22_multiplyByInt 51 = .ok (.istore 9, 2) := dk_54 9 (dk_at dksJ22_multiplyByInt_2 3 rfl rfl)
theorem dJ22_multiplyByInt_53 : decode cJ22_multiplyByInt 53 = .ok (.iload_n 3, 1) := dk_29 (dk_at dksJ22_multiplyByInt_2 5 rfl rfl)
theorem dJ22_multiplyByInt_54 : decode cJ22_multiplyByInt 54 = .ok (.iconst 1, 1) := dk_4 (dk_at dksJ22_multiplyByInt_2 6 rfl rfl)
theorem dJ22_multiplyByInt_55 : decode cJ22_multiplyByInt 55 = .ok (.isub, 1) := dk_100 (dk_at dksJ22_multiplyByInt_2 7 rfl rfl)
theorem dJ22_multiplyByInt_56 : decode cJ22_multiplyByInt 56 = .ok (.istore 10, 2) := dk_54 10 (dk_at dksJ22_multiplyByInt_2 8 rfl rfl)
theorem dJ22_multiplyByInt_58 : decode cJ22_multiplyByInt 58 = .ok (.iload 10, 2) := dk_21 10 (dk_at dksJ22_multiplyByInt_2 10 rfl rfl)
theorem dJ22_multiplyByInt_60 : decode cJ22_multiplyByInt 60 = .ok (.ifCond .lt 44, 3) := dk_155 0 44 (dk_at dksJ22_multiplyByInt_2 12 rfl rfl)
theorem dJ22_multiplyByInt_63 : decode cJ22_multiplyByInt 63 = .ok (.aload_n 0, 1) := dk_42 (dk_at dksJ22_multiplyByInt_2 15 rfl rfl)
theorem dJ22_multiplyByInt_64 : decode cJ22_multiplyByInt 64 = .ok (.iload 10, 2) := dk_21 10 (dk_at dksJ22_multiplyByInt_2 16 rfl rfl)
theorem dJ22_multiplyByInt_66 : decode cJ22_multiplyByInt 66 = .ok (.iaload, 1) := dk_46 (dk_at dksJ22_multiplyByInt_2 18 rfl rfl)
theorem dJ22_multiplyByInt_67 : decode cJ22_multiplyByInt 67 = .ok (.i2l, 1) := dk_133 (dk_at dksJ22_multiplyByInt_2 19 rfl rfl)
theorem dJ22_multiplyByInt_68 : decode cJ22_multiplyByInt 68 = .ok (.ldc2_w 130, 3) := dk_20 0 130 (dk_at dksJ22_multiplyByInt_2 20 rfl rfl)
theorem dJ22_multiplyByInt_71 : decode cJ22_multiplyByInt 71 = .ok (.land, 1) := dk_127 (dk_at dksJ22_multiplyByInt_2 23 rfl rfl)
theorem dJ22_multiplyByInt_72 : decode cJ22_multiplyByInt 72 = .ok (.lload 7, 2) := dk_22 7 (dk_at dksJ22_multiplyByInt_3 0 rfl rfl)
theorem dJ22_multiplyByInt_74 : decode cJ22_multiplyByInt 74 = .ok (.lmul, 1) := dk_105 (dk_at dksJ22_multiplyByInt_3 2 rfl rfl)
theorem dJ22_multiplyByInt_75 : decode cJ22_multiplyByInt 75 = .ok (.lload 5, 2) := dk_22 5 (dk_at dksJ22_multiplyByInt_3 3 rfl rfl)
theorem dJ22_multiplyByInt_77 : decode cJ22_multiplyByInt 77 = .ok (.ladd, 1) := dk_97 (dk_at dksJ22_multiplyByInt_3 5 rfl rfl)
theorem dJ22_multiplyByInt_78 : decode cJ22_multiplyByInt 78 = .ok (.lstore 11, 2) := dk_55 11 (dk_at dksJ22_multiplyByInt_3 6 rfl rfl)
theorem dJ22_multiplyByInt_80 : decode cJ22_multiplyByInt 80 = .ok (.aload 4, 2) := dk_25 4 (dk_at dksJ22_multiplyByInt_3 8 rfl rfl)
theorem dJ22_multiplyByInt_82 : decode cJ22_multiplyByInt 82 = .ok (.iload 9, 2) := dk_21 9 (dk_at dksJ22_multiplyByInt_3 10 rfl rfl)
theorem dJ22_multiplyByInt_84 : decode cJ22_multiplyByInt 84 = .ok (.iinc 9 (-1), 3) := dk_132 9 255 (dk_at dksJ22_multiplyByInt_3 12 rfl rfl)
theorem dJ22_multiplyByInt_87 : decode cJ22_multiplyByInt 87 = .ok (.lload 11, 2) := dk_22 11 (dk_at dksJ22_multiplyByInt_3 15 rfl rfl)
theorem dJ22_multiplyByInt_89 : decode cJ22_multiplyByInt 89 = .ok (.l2i, 1) := dk_136 (dk_at dksJ22_multiplyByInt_3 17 rfl rfl)
theorem dJ22_multiplyByInt_90 : decode cJ22_multiplyByInt 90 = .ok (.iastore, 1) := dk_79 (dk_at dksJ22_multiplyByInt_3 18 rfl rfl)
theorem dJ22_multiplyByInt_91 : decode cJ22_multiplyByInt 91 = .ok (.lload 11, 2) := dk_22 11 (dk_at dksJ22_multiplyByInt_3 19 rfl rfl)
theorem dJ22_multiplyByInt_93 : decode cJ22_multiplyByInt 93 = .ok (.bipush 32, 2) := dk_16 32 (dk_at dksJ22_multiplyByInt_3 21 rfl rfl)
theorem dJ22_multiplyByInt_95 : decode cJ22_multiplyByInt 95 = .ok (.lushr, 1) := dk_125 (dk_at dksJ22_multiplyByInt_3 23 rfl rfl)
theorem dJ22_multiplyByInt_96 : decode cJ22_multiplyByInt 96 = .ok (.lstore 5, 2) := dk_55 5 (dk_at dksJ22_multiplyByInt_4 0 rfl rfl)
theorem dJ22_multiplyByInt_98 : decode cJ22_multiplyByInt 98 = .ok (.iinc 10 (-1), 3) := dk_132 10 255 (dk_at dksJ22_multiplyByInt_4 2 rfl rfl)
theorem dJ22_multiplyByInt_101 : decode cJ22_multiplyByInt 101 = .ok (.goto (-43), 3) := dk_167 255 213 (dk_at dksJ22_multiplyByInt_4 5 rfl rfl)
theorem dJ22_multiplyByInt_104 : decode cJ22_multiplyByInt 104 = .ok (.lload 5, 2) := dk_22 5 (dk_at dksJ22_multiplyByInt_4 8 rfl rfl)
theorem dJ22_multiplyByInt_106 : decode cJ22_multiplyByInt 106 = .ok (.lconst 0, 1) := dk_9 (dk_at dksJ22_multiplyByInt_4 10 rfl rfl)
theorem dJ22_multiplyByInt_107 : decode cJ22_multiplyByInt 107 = .ok (.lcmp, 1) := dk_148 (dk_at dksJ22_multiplyByInt_4 11 rfl rfl)
theorem dJ22_multiplyByInt_108 : decode cJ22_multiplyByInt 108 = .ok (.ifCond .ne 17, 3) := dk_154 0 17 (dk_at dksJ22_multiplyByInt_4 12 rfl rfl)
theorem dJ22_multiplyByInt_111 : decode cJ22_multiplyByInt 111 = .ok (.aload 4, 2) := dk_25 4 (dk_at dksJ22_multiplyByInt_4 15 rfl rfl)
theorem dJ22_multiplyByInt_113 : decode cJ22_multiplyByInt 113 = .ok (.iconst 1, 1) := dk_4 (dk_at dksJ22_multiplyByInt_4 17 rfl rfl)
theorem dJ22_multiplyByInt_114 : decode cJ22_multiplyByInt 114 = .ok (.aload 4, 2) := dk_25 4 (dk_at dksJ22_multiplyByInt_4 18 rfl rfl)
theorem dJ22_multiplyByInt_116 : decode cJ22_multiplyByInt 116 = .ok (.arraylength, 1) := dk_190 (dk_at dksJ22_multiplyByInt_4 20 rfl rfl)
theorem dJ22_multiplyByInt_117 : decode cJ22_multiplyByInt 117 = .ok (.invokestatic 433, 3) := dk_184 1 177 (dk_at dksJ22_multiplyByInt_4 21 rfl rfl)
theorem dJ22_multiplyByInt_120 : decode cJ22_multiplyByInt 120 = .ok (.astore 4, 2) := dk_58 4 (dk_at dksJ22_multiplyByInt_5 0 rfl rfl)
theorem dJ22_multiplyByInt_122 : decode cJ22_multiplyByInt 122 = .ok (.goto 11, 3) := dk_167 0 11 (dk_at dksJ22_multiplyByInt_5 2 rfl rfl)
theorem dJ22_multiplyByInt_125 : decode cJ22_multiplyByInt 125 = .ok (.aload 4, 2) := dk_25 4 (dk_at dksJ22_multiplyByInt_5 5 rfl rfl)
theorem dJ22_multiplyByInt_127 : decode cJ22_multiplyByInt 127 = .ok (.iload 9, 2) := dk_21 9 (dk_at dksJ22_multiplyByInt_5 7 rfl rfl)
theorem dJ22_multiplyByInt_129 : decode cJ22_multiplyByInt 129 = .ok (.lload 5, 2) := dk_22 5 (dk_at dksJ22_multiplyByInt_5 9 rfl rfl)
theorem dJ22_multiplyByInt_131 : decode cJ22_multiplyByInt 131 = .ok (.l2i, 1) := dk_136 (dk_at dksJ22_multiplyByInt_5 11 rfl rfl)
theorem dJ22_multiplyByInt_132 : decode cJ22_multiplyByInt 132 = .ok (.iastore, 1) := dk_79 (dk_at dksJ22_multiplyByInt_5 12 rfl rfl)
theorem dJ22_multiplyByInt_133 : decode cJ22_multiplyByInt 133 = .ok (.new 23, 3) := dk_187 0 23 (dk_at dksJ22_multiplyByInt_5 13 rfl rfl)
theorem dJ22_multiplyByInt_136 : decode cJ22_multiplyByInt 136 = .ok (.dup, 1) := dk_89 (dk_at dksJ22_multiplyByInt_5 16 rfl rfl)
theorem dJ22_multiplyByInt_137 : decode cJ22_multiplyByInt 137 = .ok (.aload 4, 2) := dk_25 4 (dk_at dksJ22_multiplyByInt_5 17 rfl rfl)
theorem dJ22_multiplyByInt_139 : decode cJ22_multiplyByInt 139 = .ok (.iload_n 2, 1) := dk_28 (dk_at dksJ22_multiplyByInt_5 19 rfl rfl)
theorem dJ22_multiplyByInt_140 : decode cJ22_multiplyByInt 140 = .ok (.invokespecial 175, 3) := dk_183 0 175 (dk_at dksJ22_multiplyByInt_5 20 rfl rfl)
theorem dJ22_multiplyByInt_143 : decode cJ22_multiplyByInt 143 = .ok (.areturn, 1) := dk_176 (dk_at dksJ22_multiplyByInt_5 23 rfl rfl)
def dkwJ22_multiply_2_10 : List UInt8 := [43, 29, 21, 4, 184, 1, 163, 176]
abbrev dktJ22_multiply_2_10 : List UInt8 := dkwJ22_multiply_2_10 ++ []
def dkwJ22_multiply_2_9 : List UInt8 := [180, 0, 28, 43, 180, 0, 28, 190, 184, 1, 158, 133, 97, 20, 1, 161, 148, 158, 0, 6, 184, 0, 101, 42]
abbrev dktJ22_multiply_2_9 : List UInt8 := dkwJ22_multiply_2_9 ++ dktJ22_multiply_2_10
def dkwJ22_multiply_2_8 : List UInt8 := [184, 1, 155, 176, 28, 154, 0, 40, 42, 180, 0, 28, 42, 180, 0, 28, 190, 184, 1, 158, 133, 43]
abbrev dktJ22_multiply_2_8 : List UInt8 := dkwJ22_multiply_2_8 ++ dktJ22_multiply_2_9
def dkwJ22_multiply_2_7 : List UInt8 := [21, 7, 183, 0, 175, 176, 21, 5, 17, 0, 240, 162, 0, 17, 21, 6, 17, 0, 240, 162, 0, 9, 42, 43]
abbrev dktJ22_multiply_2_7 : List UInt8 := dkwJ22_multiply_2_7 ++ dktJ22_multiply_2_8
def dkwJ22_multiply_2_6 : List UInt8 := [180, 0, 28, 21, 6, 1, 184, 1, 151, 58, 8, 25, 8, 184, 0, 53, 58, 8, 187, 0, 23, 89, 25, 8]
abbrev dktJ22_multiply_2_6 : List UInt8 := dkwJ22_multiply_2_6 ++ dktJ22_multiply_2_7
def dkwJ22_multiply_2_5 : List UInt8 := [43, 180, 0, 28, 42, 180, 0, 28, 3, 46, 21, 7, 184, 1, 147, 176, 42, 180, 0, 28, 21, 5, 43]
abbrev dktJ22_multiply_2_5 : List UInt8 := dkwJ22_multiply_2_5 ++ dktJ22_multiply_2_6
def dkwJ22_multiply_2_4 : List UInt8 := [180, 0, 28, 43, 180, 0, 28, 3, 46, 21, 7, 184, 1, 147, 176, 42, 180, 0, 28, 190, 4, 160, 0, 19]
abbrev dktJ22_multiply_2_4 : List UInt8 := dkwJ22_multiply_2_4 ++ dktJ22_multiply_2_5
def dkwJ22_multiply_2_3 : List UInt8 := [43, 180, 0, 32, 160, 0, 7, 4, 167, 0, 4, 2, 54, 7, 43, 180, 0, 28, 190, 4, 160, 0, 19, 42]
abbrev dktJ22_multiply_2_3 : List UInt8 := dkwJ22_multiply_2_3 ++ dktJ22_multiply_2_4
def dkwJ22_multiply_2_2 : List UInt8 := [180, 0, 28, 190, 54, 6, 21, 5, 16, 80, 161, 0, 10, 21, 6, 16, 80, 162, 0, 108, 42, 180, 0, 32]
abbrev dktJ22_multiply_2_2 : List UInt8 := dkwJ22_multiply_2_2 ++ dktJ22_multiply_2_3
def dkwJ22_multiply_2_1 : List UInt8 := [54, 5, 43, 42, 166, 0, 19, 21, 5, 16, 20, 164, 0, 12, 42, 4, 29, 21, 4, 182, 1, 144, 176, 43]
abbrev dktJ22_multiply_2_1 : List UInt8 := dkwJ22_multiply_2_1 ++ dktJ22_multiply_2_2
def dkwJ22_multiply_2_0 : List UInt8 := [43, 180, 0, 32, 153, 0, 10, 42, 180, 0, 32, 154, 0, 7, 178, 0, 22, 176, 42, 180, 0, 28, 190]
abbrev dktJ22_multiply_2_0 : List UInt8 := dkwJ22_multiply_2_0 ++ dktJ22_multiply_2_1
theorem dksJ22_multiply_2_0 : cJ22_multiply_2.data.toList.drop 0 = dktJ22_multiply_2_0 := by decide +kernel
theorem dksJ22_multiply_2_1 : cJ22_multiply_2.data.toList.drop 23 = dktJ22_multiply_2_1 := dk_seg dksJ22_multiply_2_0 23 rfl rfl
theorem dksJ22_multiply_2_2 : cJ22_multiply_2.data.toList.drop 47 = dktJ22_multiply_2_2 := dk_seg dksJ22_multiply_2_1 24 rfl rfl
theorem dksJ22_multiply_2_3 : cJ22_multiply_2.data.toList.drop 71 = dktJ22_multiply_2_3 := dk_seg dksJ22_multiply_2_2 24 rfl rfl
theorem dksJ22_multiply_2_4 : cJ22_multiply_2.data.toList.drop 95 = dktJ22_multiply_2_4 := dk_seg dksJ22_multiply_2_3 24 rfl rfl
theorem dksJ22_multiply_2_5 : cJ22_multiply_2.data.toList.drop 119 = dktJ22_multiply_2_5 := dk_seg dksJ22_multiply_2_4 24 rfl rfl
theorem dksJ22_multiply_2_6 : cJ22_multiply_2.data.toList.drop 142 = dktJ22_multiply_2_6 := dk_seg dksJ22_multiply_2_5 23 rfl rfl
theorem dksJ22_multiply_2_7 : cJ22_multiply_2.data.toList.drop 166 = dktJ22_multiply_2_7 := dk_seg dksJ22_multiply_2_6 24 rfl rfl
theorem dksJ22_multiply_2_8 : cJ22_multiply_2.data.toList.drop 190 = dktJ22_multiply_2_8 := dk_seg dksJ22_multiply_2_7 24 rfl rfl
theorem dksJ22_multiply_2_9 : cJ22_multiply_2.data.toList.drop 212 = dktJ22_multiply_2_9 := dk_seg dksJ22_multiply_2_8 22 rfl rfl
theorem dksJ22_multiply_2_10 : cJ22_multiply_2.data.toList.drop 236 = dktJ22_multiply_2_10 := dk_seg dksJ22_multiply_2_9 24 rfl rfl
theorem dJ22_multiply_2_0 : decode cJ22_multiply_2 0 = .ok (.aload_n 1, 1) := dk_43 (dk_at dksJ22_multiply_2_0 0 rfl rfl)
theorem dJ22_multiply_2_1 : decode cJ22_multiply_2 1 = .ok (.getfield 32, 3) := dk_180 0 32 (dk_at dksJ22_multiply_2_0 1 rfl rfl)
theorem dJ22_multiply_2_4 : decode cJ22_multiply_2 4 = .ok (.ifCond .eq 10, 3) := dk_153 0 10 (dk_at dksJ22_multiply_2_0 4 rfl rfl)
theorem dJ22_multiply_2_7 : decode cJ22_multiply_2 7 = .ok (.aload_n 0, 1) := dk_42 (dk_at dksJ22_multiply_2_0 7 rfl rfl)
theorem dJ22_multiply_2_8 : decode cJ22_multiply_2 8 = .ok (.getfield 32, 3) := dk_180 0 32 (dk_at dksJ22_multiply_2_0 8 rfl rfl)
theorem dJ22_multiply_2_11 : decode cJ22_multiply_2 11 = .ok (.ifCond .ne 7, 3) := dk_154 0 7 (dk_at dksJ22_multiply_2_0 11 rfl rfl)
theorem dJ22_multiply_2_14 : decode cJ22_multiply_2 14 = .ok (.getstatic 22, 3) := dk_178 0 22 (dk_at dksJ22_multiply_2_0 14 rfl rfl)
theorem dJ22_multiply_2_17 : decode cJ22_multiply_2 17 = .ok (.areturn, 1) := dk_176 (dk_at dksJ22_multiply_2_0 17 rfl rfl)
theorem dJ22_multiply_2_18 : decode cJ22_multiply_2 18 = .ok (.aload_n 0, 1) := dk_42 (dk_at dksJ22_multiply_2_0 18 rfl rfl)
theorem dJ22_multiply_2_19 : decode cJ22_multiply_2 19 = .ok (.getfield 28, 3) := dk_180 0 28 (dk_at dksJ22_multiply_2_0 19 rfl rfl)
theorem dJ22_multiply_2_22 : decode cJ22_multiply_2 22 = .ok (.arraylength, 1) := dk_190 (dk_at dksJ22_multiply_2_0 22 rfl rfl)
theorem dJ22_multiply_2_23 : decode cJ22_multiply_2 23 = .ok (.istore 5, 2) := dk_54 5 (dk_at dksJ22_multiply_2_1 0 rfl rfl)
theorem dJ22_multiply_2_25 : decode cJ22_multiply_2 25 = .ok (.aload_n 1, 1) := dk_43 (dk_at dksJ22_multiply_2_1 2 rfl rfl)
theorem dJ22_multiply_2_26 : decode cJ22_multiply_2 26 = .ok (.aload_n 0, 1) := dk_42 (dk_at dksJ22_multiply_2_1 3 rfl rfl)
theorem dJ22_multiply_2_27 : decode cJ22_multiply_2 27 = .ok (.if_acmp .ne 19, 3) := dk_166 0 19 (dk_at dksJ22_multiply_2_1 4 rfl rfl)
theorem dJ22_multiply_2_30 : decode cJ22_multiply_2 30 = .ok (.iload 5, 2) := dk_21 5 (dk_at dksJ22_multiply_2_1 7 rfl rfl)
theorem dJ22_multiply_2_32 : decode cJ22_multiply_2 32 = .ok (.bipush 20, 2) := dk_16 20 (dk_at dksJ22_multiply_2_1 9 rfl rfl)
theorem dJ22_multiply_2_34 : decode cJ22_multiply_2 34 = .ok (.if_icmp .le 12, 3) := dk_164 0 12 (dk_at dksJ22_multiply_2_1 11 rfl rfl)
theorem dJ22_multiply_2_37 : decode cJ22_multiply_2 37 = .ok (.aload_n 0, 1) := dk_42 (dk_at dksJ22_multiply_2_1 14 rfl rfl)
theorem dJ22_multiply_2_38 : decode cJ22_multiply_2 38 = .ok (.iconst 1, 1) := dk_4 (dk_at dksJ22_multiply_2_1 15 rfl rfl)
theorem dJ22_multiply_2_39 : decode cJ22_multiply_2 39 = .ok (.iload_n 3, 1) := dk_29 (dk_at dksJ22_multiply_2_1 16 rfl rfl)
theorem dJ22_multiply_2_40 : decode cJ22_multiply_2 40 = .ok (.iload 4, 2) := dk_21 4 (dk_at dksJ22_multiply_2_1 17 rfl rfl)
theorem dJ22_multiply_2_42 : decode cJ22_multiply_2 42 = .ok (.invokevirtual 400, 3) := dk_182 1 144 (dk_at dksJ22_multiply_2_1 19 rfl rfl)
theorem dJ22_multiply_2_45 : decode cJ22_multiply_2 45 = .ok (.areturn, 1) := dk_176 (dk_at dksJ22_multiply_2_1 22 rfl rfl)
theorem dJ22_multiply_2_46 : decode cJ22_multiply_2 46 = .ok (.aload_n 1, 1) := dk_43 (dk_at dksJ22_multiply_2_1 23 rfl rfl)
theorem dJ22_multiply_2_47 : decode cJ22_multiply_2 47 = .ok (.getfield 28, 3) := dk_180 0 28 (dk_at dksJ22_multiply_2_2 0 rfl rfl)
theorem dJ22_multiply_2_50 : decode cJ22_multiply_2 50 = .ok (.arraylength, 1) := dk_190 (dk_at dksJ22_multiply_2_2 3 rfl rfl)
theorem dJ22_multiply_2_51 : decode cJ22_multiply_2 51 = .ok (.istore 6, 2) := dk_54 6 (dk_at dksJ22_multiply_2_2 4 rfl rfl)
theorem dJ22_multiply_2_53 : decode cJ22_multiply_2 53 = .ok (.iload 5, 2) := dk_21 5 (dk_at dksJ22_multiply_2_2 6 rfl rfl)
theorem dJ22_multiply_2_55 : decode cJ22_multiply_2 55 = .ok (.bipush 80, 2) := dk_16 80 (dk_at dksJ22_multiply_2_2 8 rfl rfl)
theorem dJ22_multiply_2_57 : decode cJ22_multiply_2 57 = .ok (.if_icmp .lt 10, 3) := dk_161 0 10 (dk_at dksJ22_multiply_2_2 10 rfl rfl)
theorem dJ22_multiply_2_60 : decode cJ22_multiply_2 60 = .ok (.iload 6, 2) := dk_21 6 (dk_at dksJ22_multiply_2_2 13 rfl rfl)
theorem dJ22_multiply_2_62 : decode cJ22_multiply_2 62 = .ok (.bipush 80, 2) := dk_16 80 (dk_at dksJ22_multiply_2_2 15 rfl rfl)
theorem dJ22_multiply_2_64 : decode cJ22_multiply_2 64 = .ok (.if_icmp .ge 108, 3) := dk_162 0 108 (dk_at dksJ22_multiply_2_2 17 rfl rfl)
theorem dJ22_multiply_2_67 : decode cJ22_multiply_2 67 = .ok (.aload_n 0, 1) := dk_42 (dk_at dksJ22_multiply_2_2 20 rfl rfl)
theorem dJ22_multiply_2_68 : decode cJ22_multiply_2 68 = .ok (.getfield 32, 3) := dk_180 0 32 (dk_at dksJ22_multiply_2_2 21 rfl rfl)
theorem dJ22_multiply_2_71 : decode cJ22_multiply_2 71 = .ok (.aload_n 1, 1) := dk_43 (dk_at dksJ22_multiply_2_3 0 rfl rfl)
theorem dJ22_multiply_2_72 : decode cJ22_multiply_2 72 = .ok (.getfield 32, 3) := dk_180 0 32 (dk_at dksJ22_multiply_2_3 1 rfl rfl)
theorem dJ22_multiply_2_75 : decode cJ22_multiply_2 75 = .ok (.if_icmp .ne 7, 3) := dk_160 0 7 (dk_at dksJ22_multiply_2_3 4 rfl rfl)
theorem dJ22_multiply_2_78 : decode cJ22_multiply_2 78 = .ok (.iconst 1, 1) := dk_4 (dk_at dksJ22_multiply_2_3 7 rfl rfl)
theorem dJ22_multiply_2_79 : decode cJ22_multiply_2 79 = .ok (.goto 4, 3) := dk_167 0 4 (dk_at dksJ22_multiply_2_3 8 rfl rfl)
theorem dJ22_multiply_2_82 : decode cJ22_multiply_2 82 = .ok (.iconst (-1), 1) := dk_2 (dk_at dksJ22_multiply_2_3 11 rfl rfl)
theorem dJ22_multiply_2_83 : decode cJ22_multiply_2 83 = .ok (.istore 7, 2) := dk_54 7 (dk_at dksJ22_multiply_2_3 12 rfl rfl)
theorem dJ22_multiply_2_85 : decode cJ22_multiply_2 85 = .ok (.aload_n 1, 1) := dk_43 (dk_at dksJ22_multiply_2_3 14 rfl rfl)
theorem dJ22_multiply_2_86 : decode cJ22_multiply_2 86 = .ok (.getfield 28, 3) := dk_180 0 28 (dk_at dksJ22_multiply_2_3 15 rfl rfl)
theorem dJ22_multiply_2_89 : decode cJ22_multiply_2 89 = .ok (.arraylength, 1) := dk_190 (dk_at dksJ22_multiply_2_3 18 rfl rfl)
theorem dJ22_multiply_2_90 : decode cJ22_multiply_2 90 = .ok (.iconst 1, 1) := dk_4 (dk_at dksJ22_multiply_2_3 19 rfl rfl)
theorem dJ22_multiply_2_91 : decode cJ22_multiply_2 91 = .ok (.if_icmp .ne 19, 3) := dk_160 0 19 (dk_at dksJ22_multiply_2_3 20 rfl rfl)
theorem dJ22_multiply_2_94 : decode cJ22_multiply_2 94 = .ok (.aload_n 0, 1) := dk_42 (dk_at dksJ22_multiply_2_3 23 rfl rfl)
theorem dJ22_multiply_2_95 : decode cJ22_multiply_2 95 = .ok (.getfield 28, 3) := dk_180 0 28 (dk_at dksJ22_multiply_2_4 0 rfl rfl)
theorem dJ22_multiply_2_98 : decode cJ22_multiply_2 98 = .ok (.aload_n 1, 1) := dk_43 (dk_at dksJ22_multiply_2_4 3 rfl rfl)
theorem dJ22_multiply_2_99 : decode cJ22_multiply_2 99 = .ok (.getfield 28, 3) := dk_180 0 28 (dk_at dksJ22_multiply_2_4 4 rfl rfl)
theorem dJ22_multiply_2_102 : decode cJ22_multiply_2 102 = .ok (.iconst 0, 1) := dk_3 (dk_at dksJ22_multiply_2_4 7 rfl rfl)
theorem dJ22_multiply_2_103 : decode cJ22_multiply_2 103 = .ok (.iaload, 1) := dk_46 (dk_at dksJ22_multiply_2_4 8 rfl rfl)
theorem dJ22_multiply_2_104 : decode cJ22_multiply_2 104 = .ok (.iload 7, 2) := dk_21 7 (dk_at dksJ22_multiply_2_4 9 rfl rfl)
theorem dJ22_multiply_2_106 : decode cJ22_multiply_2 106 = .ok (.invokestatic 403, 3) := dk_184 1 147 (dk_at dksJ22_multiply_2_4 11 rfl rfl)
theorem dJ22_multiply_2_109 : decode cJ22_multiply_2 109 = .ok (.areturn, 1) := dk_176 (dk_at dksJ22_multiply_2_4 14 rfl rfl)
theorem dJ22_multiply_2_110 : decode cJ22_multiply_2 110 = .ok (.aload_n 0, 1) := dk_42 (dk_at dksJ22_multiply_2_4 15 rfl rfl)
theorem dJ22_multiply_2_111 : decode cJ22_multiply_2 111 = .ok (.getfield 28, 3) := dk_180 0 28 (dk_at dksJ22_multiply_2_4 16 rfl rfl)
theorem dJ22_multiply_2_114 : decode cJ22_multiply_2 114 = .ok (.arraylength, 1) := dk_190 (dk_at dksJ22_multiply_2_4 19 rfl rfl)
theorem dJ22_multiply_2_115 : decode cJ22_multiply_2 115 = .ok (.iconst 1, 1) := dk_4 (dk_at dksJ22_multiply_2_4 20 rfl rfl)
theorem dJ22_multiply_2_116 : decode cJ22_multiply_2 116 = .ok (.if_icmp .ne 19, 3) := dk_160 0 19 (dk_at dksJ22_multiply_2_4 21 rfl rfl)
theorem dJ22_multiply_2_119 : decode cJ22_multiply_2 119 = .ok (.aload_n 1, 1) := dk_43 (dk_at dksJ22_multiply_2_5 0 rfl rfl)
theorem dJ22_multiply_2_120 : decode cJ22_multiply_2 120 = .ok (.getfield 28, 3) := dk_180 0 28 (dk_at dksJ22_multiply_2_5 1 rfl rfl)
theorem dJ22_multiply_2_123 : decode cJ22_multiply_2 123 = .ok (.aload_n 0, 1) := dk_42 (dk_at dksJ22_multiply_2_5 4 rfl rfl)
theorem dJ22_multiply_2_124 : decode cJ22_multiply_2 124 = .ok (.getfield 28, 3) := dk_180 0 28 (dk_at dksJ22_multiply_2_5 5 rfl rfl)
theorem dJ22_multiply_2_127 : decode cJ22_multiply_2 127 = .ok (.iconst 0, 1) := dk_3 (dk_at dksJ22_multiply_2_5 8 rfl rfl)
theorem dJ22_multiply_2_128 : decode cJ22_multiply_2 128 = .ok (.iaload, 1) := dk_46 (dk_at dksJ22_multiply_2_5 9 rfl rfl)
theorem dJ22_multiply_2_129 : decode cJ22_multiply_2 129 = .ok (.iload 7, 2) := dk_21 7 (dk_at dksJ22_multiply_2_5 10 rfl rfl)
theorem dJ22_multiply_2_131 : decode cJ22_multiply_2 131 = .ok (.invokestatic 403, 3) := dk_184 1 147 (dk_at dksJ22_multiply_2_5 12 rfl rfl)
theorem dJ22_multiply_2_134 : decode cJ22_multiply_2 134 = .ok (.areturn, 1) := dk_176 (dk_at dksJ22_multiply_2_5 15 rfl rfl)
theorem dJ22_multiply_2_135 : decode cJ22_multiply_2 135 = .ok (.aload_n 0, 1) := dk_42 (dk_at dksJ22_multiply_2_5 16 rfl rfl)
theorem dJ22_multiply_2_136 : decode cJ22_multiply_2 136 = .ok (.getfield 28, 3) := dk_180 0 28 (dk_at dksJ22_multiply_2_5 17 rfl rfl)
theorem dJ22_multiply_2_139 : decode cJ22_multiply_2 139 = .ok (.iload 5, 2) := dk_21 5 (dk_at dksJ22_multiply_2_5 20 rfl rfl)
theorem dJ22_multiply_2_141 : decode cJ22_multiply_2 141 = .ok (.aload_n 1, 1) := dk_43 (dk_at dksJ22_multiply_2_5 22 rfl rfl)
theorem dJ22_multiply_2_142 : decode cJ22_multiply_2 142 = .ok (.getfield 28, 3) := dk_180 0 28 (dk_at dksJ22_multiply_2_6 0 rfl rfl)
theorem dJ22_multiply_2_145 : decode cJ22_multiply_2 145 = .ok (.iload 6, 2) := dk_21 6 (dk_at dksJ22_multiply_2_6 3 rfl rfl)
theorem dJ22_multiply_2_147 : decode cJ22_multiply_2 147 = .ok (.aconst_null, 1) := dk_1 (dk_at dksJ22_multiply_2_6 5 rfl rfl)
theorem dJ22_multiply_2_148 : decode cJ22_multiply_2 148 = .ok (.invokestatic 407, 3) := dk_184 1 151 (dk_at dksJ22_multiply_2_6 6 rfl rfl)
theorem dJ22_multiply_2_151 : decode cJ22_multiply_2 151 = .ok (.astore 8, 2) := dk_58 8 (dk_at dksJ22_multiply_2_6 9 rfl rfl)
theorem dJ22_multiply_2_153 : decode cJ22_multiply_2 153 = .ok (.aload 8, 2) := dk_25 8 (dk_at dksJ22_multiply_2_6 11 rfl rfl)
theorem dJ22_multiply_2_155 : decode cJ22_multiply_2 155 = .ok (.invokestatic 53, 3) := dk_184 0 53 (dk_at dksJ22_multiply_2_6 13 rfl rfl)
theorem dJ22_multiply_2_158 : decode cJ22_multiply_2 158 = .ok (.astore 8, 2) := dk_58 8 (dk_at dksJ22_multiply_2_6 16 rfl rfl)
theorem dJ22_multiply_2_160 : decode cJ22_multiply_2 160 = .ok (.new 23, 3) := dk_187 0 23 (dk_at dksJ22_multiply_2_6 18 rfl rfl)
theorem dJ22_multiply_2_163 : decode cJ22_multiply_2 163 = .ok (.dup, 1) := dk_89 (dk_at dksJ22_multiply_2_6 21 rfl rfl)
theorem dJ22_multiply_2_164 : decode cJ22_multiply_2 164 = .ok (.aload 8, 2) := dk_25 8 (dk_at dksJ22_multiply_2_6 22 rfl rfl)
theorem dJ22_multiply_2_166 : decode cJ22_multiply_2 166 = .ok (.iload 7, 2) := dk_21 7 (dk_at dksJ22_multiply_2_7 0 rfl rfl)
theorem dJ22_multiply_2_168 : decode cJ22_multiply_2 168 = .ok (.invokespecial 175, 3) := dk_183 0 175 (dk_at dksJ22_multiply_2_7 2 rfl rfl)
theorem dJ22_multiply_2_171 : decode cJ22_multiply_2 171 = .ok (.areturn, 1) := dk_176 (dk_at dksJ22_multiply_2_7 5 rfl rfl)
theorem dJ22_multiply_2_172 : decode cJ22_multiply_2 172 = .ok (.iload 5, 2) := dk_21 5 (dk_at dksJ22_multiply_2_7 6 rfl rfl)
theorem dJ22_multiply_2_174 : decode cJ22_multiply_2 174 = .ok (.sipush 240, 3) := dk_17 0 240 (dk_at dksJ22_multiply_2_7 8 rfl rfl)
theorem dJ22_multiply_2_177 : decode cJ22_multiply_2 177 = .ok (.if_icmp .ge 17, 3) := dk_162 0 17 (dk_at dksJ22_multiply_2_7 11 rfl rfl)
theorem dJ22_multiply_2_180 : decode cJ22_multiply_2 180 = .ok (.iload 6, 2) := dk_21 6 (dk_at dksJ22_multiply_2_7 14 rfl rfl)
theorem dJ22_multiply_2_182 : decode cJ22_multiply_2 182 = .ok (.sipush 240, 3) := dk_17 0 240 (dk_at dksJ22_multiply_2_7 16 rfl rfl)
theorem dJ22_multiply_2_185 : decode cJ22_multiply_2 185 = .ok (.if_icmp .ge 9, 3) := dk_162 0 9 (dk_at dksJ22_multiply_2_7 19 rfl rfl)
theorem dJ22_multiply_2_188 : decode cJ22_multiply_2 188 = .ok (.aload_n 0, 1) := dk_42 (dk_at dksJ22_multiply_2_7 22 rfl rfl)
theorem dJ22_multiply_2_189 : decode cJ22_multiply_2 189 = .ok (.aload_n 1, 1) := dk_43 (dk_at dksJ22_multiply_2_7 23 rfl rfl)
theorem dJ22_multiply_2_190 : decode cJ22_multiply_2 190 = .ok (.invokestatic 411, 3) := dk_184 1 155 (dk_at dksJ22_multiply_2_8 0 rfl rfl)
theorem dJ22_multiply_2_193 : decode cJ22_multiply_2 193 = .ok (.areturn, 1) := dk_176 (dk_at dksJ22_multiply_2_8 3 rfl rfl)
theorem dJ22_multiply_2_194 : decode cJ22_multiply_2 194 = .ok (.iload_n 2, 1) := dk_28 (dk_at dksJ22_multiply_2_8 4 rfl rfl)
theorem dJ22_multiply_2_195 : decode cJ22_multiply_2 195 = .ok (.ifCond .ne 40, 3) := dk_154 0 40 (dk_at dksJ22_multiply_2_8 5 rfl rfl)
theorem dJ22_multiply_2_198 : decode cJ22_multiply_2 198 = .ok (.aload_n 0, 1) := dk_42 (dk_at dksJ22_multiply_2_8 8 rfl rfl)
theorem dJ22_multiply_2_199 : decode cJ22_multiply_2 199 = .ok (.getfield 28, 3) := dk_180 0 28 (dk_at dksJ22_multiply_2_8 9 rfl rfl)
theorem dJ22_multiply_2_202 : decode cJ22_multiply_2 202 = .ok (.aload_n 0, 1) := dk_42 (dk_at dksJ22_multiply_2_8 12 rfl rfl)
theorem dJ22_multiply_2_203 : decode cJ22_multiply_2 203 = .ok (.getfield 28, 3) := dk_180 0 28 (dk_at dksJ22_multiply_2_8 13 rfl rfl)
theorem dJ22_multiply_2_206 : decode cJ22_multiply_2 206 = .ok (.arraylength, 1) := dk_190 (dk_at dksJ22_multiply_2_8 16 rfl rfl)
theorem dJ22_multiply_2_207 : decode cJ22_multiply_2 207 = .ok (.invokestatic 414, 3) := dk_184 1 158 (dk_at dksJ22_multiply_2_8 17 rfl rfl)
theorem dJ22_multiply_2_210 : decode cJ22_multiply_2 210 = .ok (.i2l, 1) := dk_133 (dk_at dksJ22_multiply_2_8 20 rfl rfl)
theorem dJ22_multiply_2_211 : decode cJ22_multiply_2 211 = .ok (.aload_n 1, 1) := dk_43 (dk_at dksJ22_multiply_2_8 21 rfl rfl)
theorem dJ22_multiply_2_212 : decode cJ22_multiply_2 212 = .ok (.getfield 28, 3) := dk_180 0 28 (dk_at dksJ22_multiply_2_9 0 rfl rfl)
theorem dJ22_multiply_2_215 : decode cJ22_multiply_2 215 = .ok (.aload_n 1, 1) := dk_43 (dk_at dksJ22_multiply_2_9 3 rfl rfl)
theorem dJ22_multiply_2_216 : decode cJ22_multiply_2 216 = .ok (.getfield 28, 3) := dk_180 0 28 (dk_at dksJ22_multiply_2_9 4 rfl rfl)
theorem dJ22_multiply_2_219 : decode cJ22_multiply_2 219 = .ok (.arraylength, 1) := dk_190 (dk_at dksJ22_multiply_2_9 7 rfl rfl)
theorem dJ22_multiply_2_220 : decode cJ22_multiply_2 220 = .ok (.invokestatic 414, 3) := dk_184 1 158 (dk_at dksJ22_multiply_2_9 8 rfl rfl)
theorem dJ22_multiply_2_223 : decode cJ22_multiply_2 223 = .ok (.i2l, 1) := dk_133 (dk_at dksJ22_multiply_2_9 11 rfl rfl)
theorem dJ22_multiply_2_224 : decode cJ22_multiply_2 224 = .ok (.ladd, 1) := dk_97 (dk_at dksJ22_multiply_2_9 12 rfl rfl)
theorem dJ22_multiply_2_225 : decode cJ22_multiply_2 225 = .ok (.ldc2_w 417, 3) := dk_20 1 161 (dk_at dksJ22_multiply_2_9 13 rfl rfl)
theorem dJ22_multiply_2_228 : decode cJ22_multiply_2 228 = .ok (.lcmp, 1) := dk_148 (dk_at dksJ22_multiply_2_9 16 rfl rfl)
theorem dJ22_multiply_2_229 : decode cJ22_multiply_2 229 = .ok (.ifCond .le 6, 3) := dk_158 0 6 (dk_at dksJ22_multiply_2_9 17 rfl rfl)
theorem dJ22_multiply_2_232 : decode cJ22_multiply_2 232 = .ok (.invokestatic 101, 3) := dk_184 0 101 (dk_at dksJ22_multiply_2_9 20 rfl rfl)
theorem dJ22_multiply_2_235 : decode cJ22_multiply_2 235 = .ok (.aload_n 0, 1) := dk_42 (dk_at dksJ22_multiply_2_9 23 rfl rfl)
theorem dJ22_multiply_2_236 : decode cJ22_multiply_2 236 = .ok (.aload_n 1, 1) := dk_43 (dk_at dksJ22_multiply_2_10 0 rfl rfl)
theorem dJ22_multiply_2_237 : decode cJ22_multiply_2 237 = .ok (.iload_n 3, 1) := dk_29 (dk_at dksJ22_multiply_2_10 1 rfl rfl)
theorem dJ22_multiply_2_238 : decode cJ22_multiply_2 238 = .ok (.iload 4, 2) := dk_21 4 (dk_at dksJ22_multiply_2_10 2 rfl rfl)
theorem dJ22_multiply_2_240 : decode cJ22_multiply_2 240 = .ok (.invokestatic 419, 3) := dk_184 1 163 (dk_at dksJ22_multiply_2_10 4 rfl rfl)
theorem dJ22_multiply_2_243 : decode cJ22_multiply_2 243 = .ok (.areturn, 1) := dk_176 (dk_at dksJ22_multiply_2_10 7 rfl rfl)
def dkwJ22_multiply_0 : List UInt8 := [42, 43, 3, 3, 3, 182, 1, 141, 176]
abbrev dktJ22_multiply_0 : List UInt8 := dkwJ22_multiply_0 ++ []
theorem dksJ22_multiply_0 : cJ22_multiply.data.toList.drop 0 = dktJ22_multiply_0 := by decide +kernel
theorem dJ22_multiply_0 : decode cJ22_multiply 0 = .ok (.aload_n 0, 1) := dk_42 (dk_at dksJ22_multiply_0 0 rfl rfl)
theorem dJ22_multiply_1 : decode cJ22_multiply 1 = .ok (.aload_n 1, 1) := dk_43 (dk_at dksJ22_multiply_0 1 rfl rfl)
theorem dJ22_multiply_2 : decode cJ22_multiply 2 = .ok (.iconst 0, 1) := dk_3 (dk_at dksJ22_multiply_0 2 rfl rfl)
theorem dJ22_multiply_3 : decode cJ22_multiply 3 = .ok (.iconst 0, 1) := dk_3 (dk_at dksJ22_multiply_0 3 rfl rfl)
theorem dJ22_multiply_4 : decode cJ22_multiply 4 = .ok (.iconst 0, 1) := dk_3 (dk_at dksJ22_multiply_0 4 rfl rfl)
theorem dJ22_multiply_5 : decode cJ22_multiply 5 = .ok (.invokevirtual 397, 3) := dk_182 1 141 (dk_at dksJ22_multiply_0 5 rfl rfl)
theorem dJ22_multiply_8 : decode cJ22_multiply 8 = .ok (.areturn, 1) := dk_176 (dk_at dksJ22_multiply_0 8 rfl rfl)
def dkwJ22_shiftLeft_1 : List UInt8 := [184, 1, 173, 42, 180, 0, 32, 183, 0, 175, 176, 27, 154, 0, 5, 42, 176, 42, 27, 116, 182, 2, 215, 176]
abbrev dktJ22_shiftLeft_1 : List UInt8 := dkwJ22_shiftLeft_1 ++ []
def dkwJ22_shiftLeft_0 : List UInt8 := [42, 180, 0, 32, 154, 0, 7, 178, 0, 22, 176, 27, 158, 0, 23, 187, 0, 23, 89, 42, 180, 0, 28, 27]
abbrev dktJ22_shiftLeft_0 : List UInt8 := dkwJ22_shiftLeft_0 ++ dktJ22_shiftLeft_1
theorem dksJ22_shiftLeft_0 : cJ22_shiftLeft.data.toList.drop 0 = dktJ22_shiftLeft_0 := by decide +kernel
theorem dksJ22_shiftLeft_1 : cJ22_shiftLeft.data.toList.drop 24 = dktJ22_shiftLeft_1 := dk_seg dksJ22_shiftLeft_0 24 rfl rfl
theorem dJ22_shiftLeft_0 : decode cJ22_shiftLeft 0 = .ok (.aload_n 0, 1) := dk_42 (dk_at dksJ22_shiftLeft_0 0 rfl rfl)
theorem dJ22_shiftLeft_1 : decode cJ22_shiftLeft 1 = .ok (.getfield 32, 3) := dk_180 0 32 (dk_at dksJ22_shiftLeft_0 1 rfl rfl)
theorem dJ22_shiftLeft_4 : decode cJ22_shiftLeft 4 = .ok (.ifCond .ne 7, 3) := dk_154 0 7 (dk_at dksJ22_shiftLeft_0 4 rfl rfl)
theorem dJ22_shiftLeft_7 : decode cJ22_shiftLeft 7 = .ok (.getstatic 22, 3) := dk_178 0 22 (dk_at dksJ22_shiftLeft_0 7 rfl rfl)
theorem dJ22_shiftLeft_10 : decode cJ22_shiftLeft 10 = .ok (.areturn, 1) := dk_176 (dk_at dksJ22_shiftLeft_0 10 rfl rfl)
theorem dJ22_shiftLeft_11 : decode cJ22_shiftLeft 11 = .ok (.iload_n 1, 1) := dk_27 (dk_at dksJ22_shiftLeft_0 11 rfl rfl)
theorem dJ22_shiftLeft_12 : decode cJ22_shiftLeft 12 = .ok (.ifCond .le 23, 3) := dk_158 0 23 (dk_at dksJ22_shiftLeft_0 12 rfl rfl)
theorem dJ22_shiftLeft_15 : decode cJ22_shiftLeft 15 = .ok (.new 23, 3) := dk_187 0 23 (dk_at dksJ22_shiftLeft_0 15 rfl rfl)
theorem dJ22_shiftLeft_18 : decode cJ22_shiftLeft 18 = .ok (.dup, 1) := dk_89 (dk_at dksJ22_shiftLeft_0 18 rfl rfl)
theorem dJ22_shiftLeft_19 : decode cJ22_shiftLeft 19 = .ok (.aload_n 0, 1) := dk_42 (dk_at dksJ22_shiftLeft_0 19 rfl rfl)
theorem dJ22_shiftLeft_20 : decode cJ22_shiftLeft 20 = .ok (.getfield 28, 3) := dk_180 0 28 (dk_at dksJ22_shiftLeft_0 20 rfl rfl)
theorem dJ22_shiftLeft_23 : decode cJ22_shiftLeft 23 = .ok (.iload_n 1, 1) := dk_27 (dk_at dksJ22_shiftLeft_0 23 rfl rfl)
theorem dJ22_shiftLeft_24 : decode cJ22_shiftLeft 24 = .ok (.invokestatic 429, 3) := dk_184 1 173 (dk_at dksJ22_shiftLeft_1 0 rfl rfl)
theorem dJ22_shiftLeft_27 : decode cJ22_shiftLeft 27 = .ok (.aload_n 0, 1) := dk_42 (dk_at dksJ22_shiftLeft_1 3 rfl rfl)
theorem dJ22_shiftLeft_28 : decode cJ22_shiftLeft 28 = .ok (.getfield 32, 3) := dk_180 0 32 (dk_at dksJ22_shiftLeft_1 4 rfl rfl)
theorem dJ22_shiftLeft_31 : decode cJ22_shiftLeft 31 = .ok (.invokespecial 175, 3) := dk_183 0 175 (dk_at dksJ22_shiftLeft_1 7 rfl rfl)
theorem dJ22_shiftLeft_34 : decode cJ22_shiftLeft 34 = .ok (.areturn, 1) := dk_176 (dk_at dksJ22_shiftLeft_1 10 rfl rfl)
theorem dJ22_shiftLeft_35 : decode cJ22_shiftLeft 35 = .ok (.iload_n 1, 1) := dk_27 (dk_at dksJ22_shiftLeft_1 11 rfl rfl)
theorem dJ22_shiftLeft_36 : decode cJ22_shiftLeft 36 = .ok (.ifCond .ne 5, 3) := dk_154 0 5 (dk_at dksJ22_shiftLeft_1 12 rfl rfl)
theorem dJ22_shiftLeft_39 : decode cJ22_shiftLeft 39 = .ok (.aload_n 0, 1) := dk_42 (dk_at dksJ22_shiftLeft_1 15 rfl rfl)
theorem dJ22_shiftLeft_40 : decode cJ22_shiftLeft 40 = .ok (.areturn, 1) := dk_176 (dk_at dksJ22_shiftLeft_1 16 rfl rfl)
theorem dJ22_shiftLeft_41 : decode cJ22_shiftLeft 41 = .ok (.aload_n 0, 1) := dk_42 (dk_at dksJ22_shiftLeft_1 17 rfl rfl)
theorem dJ22_shiftLeft_42 : decode cJ22_shiftLeft 42 = .ok (.iload_n 1, 1) := dk_27 (dk_at dksJ22_shiftLeft_1 18 rfl rfl)
theorem dJ22_shiftLeft_43 : decode cJ22_shiftLeft 43 = .ok (.ineg, 1) := dk_116 (dk_at dksJ22_shiftLeft_1 19 rfl rfl)
theorem dJ22_shiftLeft_44 : decode cJ22_shiftLeft 44 = .ok (.invokevirtual 727, 3) := dk_182 2 215 (dk_at dksJ22_shiftLeft_1 20 rfl rfl)
theorem dJ22_shiftLeft_47 : decode cJ22_shiftLeft 47 = .ok (.areturn, 1) := dk_176 (dk_at dksJ22_shiftLeft_1 23 rfl rfl)
theorem yd_J17_bitCount : yJ17_bitCount.cls ≠ "java/lang/invoke/MethodHandle" ∧ yJ17_bitCount.cls ≠ "java/lang/invoke/VarHandle" ∧ (parseMethodDescriptor yJ17_bitCount.desc).map (fun d => d.parameters.length) = some 1 := by decide +kernel
theorem yd_J22_init : yJ22_init.cls ≠ "java/lang/invoke/MethodHandle" ∧ yJ22_init.cls ≠ "java/lang/invoke/VarHandle" ∧ (parseMethodDescriptor yJ22_init.desc).map (fun d => d.parameters.length) = some 2 := by decide +kernel
theorem yd_J22_multiplyByInt : yJ22_multiplyByInt.cls ≠ "java/lang/invoke/MethodHandle" ∧ yJ22_multiplyByInt.cls ≠ "java/lang/invoke/VarHandle" ∧ (parseMethodDescriptor yJ22_multiplyByInt.desc).map (fun d => d.parameters.length) = some 3 := by decide +kernel
theorem yd_J22_multiplyToLen : yJ22_multiplyToLen.cls ≠ "java/lang/invoke/MethodHandle" ∧ yJ22_multiplyToLen.cls ≠ "java/lang/invoke/VarHandle" ∧ (parseMethodDescriptor yJ22_multiplyToLen.desc).map (fun d => d.parameters.length) = some 5 := by decide +kernel
theorem ydv_J22_multiply_2 : yJ22_multiply_2.cls = "java/math/BigInteger" ∧ yJ22_multiply_2.cls ≠ "java/lang/invoke/MethodHandle" ∧ yJ22_multiply_2.cls ≠ "java/lang/invoke/VarHandle" ∧ (parseMethodDescriptor yJ22_multiply_2.desc).map (fun d => d.parameters.length) = some 4 := by decide +kernel
theorem yd_J22_shiftLeft_2 : yJ22_shiftLeft_2.cls ≠ "java/lang/invoke/MethodHandle" ∧ yJ22_shiftLeft_2.cls ≠ "java/lang/invoke/VarHandle" ∧ (parseMethodDescriptor yJ22_shiftLeft_2.desc).map (fun d => d.parameters.length) = some 2 := by decide +kernel
theorem yd_J22_trustedStripLeadingZeroInts : yJ22_trustedStripLeadingZeroInts.cls ≠ "java/lang/invoke/MethodHandle" ∧ yJ22_trustedStripLeadingZeroInts.cls ≠ "java/lang/invoke/VarHandle" ∧ (parseMethodDescriptor yJ22_trustedStripLeadingZeroInts.desc).map (fun d => d.parameters.length) = some 1 := by decide +kernel
/-! ### BigIntegers multiplied, shifted -/
theorem lead_le {d : Nat → Nat} {n : Nat} (hn : 0 < n) (h : d 0 ≠ 0) : 4294967296 ^ (n - 1) ≤ val d n := by
  obtain ⟨t, rfl⟩ : ∃ t, n = t + 1 := ⟨n - 1, by omega⟩
  rw [← seg_0, seg_l, Nat.add_sub_cancel]
  have : 4294967296 ^ t ≤ d 0 * 4294967296 ^ t := Nat.le_mul_of_pos_left _ (by omega)
  omega
theorem lead_nz {d : Nat → Nat} (hd : ∀ i, d i < 4294967296) {n : Nat} (hn : 0 < n) (h : 4294967296 ^ (n - 1) ≤ val d n) : d 0 ≠ 0 := by
  obtain ⟨t, rfl⟩ : ∃ t, n = t + 1 := ⟨n - 1, by omega⟩
  rw [← seg_0, seg_l, Nat.add_sub_cancel] at h
  intro q
  rw [q, Nat.zero_mul] at h
  have := seg_lt hd 1 t
  rw [Nat.zero_add] at h
  rw [show 0 + 1 = 1 from rfl] at h
  omega
theorem val_s (d : Nat → Nat) (o n : Nat) : val (fun j => d (o + j)) n = seg d o n := rfl
theorem val_pos {d : Nat → Nat} {n : Nat} (hn : 0 < n) (h : d 0 ≠ 0) : 0 < val d n := Nat.lt_of_lt_of_le (Nat.pow_pos (by decide)) (lead_le hn h)
theorem n_pos {d : Nat → Nat} {n V : Nat} (h : val d n = V) (hV : 0 < V) : 0 < n := by
  rcases Nat.eq_zero_or_pos n with q | q
  · subst q
    exact absurd h (by show ¬ 0 = V; omega)
  · exact q
theorem val_1 {d : Nat → Nat} : val d 1 = d 0 := by show 0 * 4294967296 + d 0 = d 0; omega
/-- leading zeros fall away -/
theorem strip_val {e : Nat → Nat} {n i : Nat} (hi : i ≤ n) (hz : ∀ j, j < i → e j = 0) : val (fun j => e (i + j)) (n - i) = val e n := by
  obtain ⟨t, rfl⟩ : ∃ t, n = i + t := ⟨n - i, by omega⟩
  rw [← seg_0 e, seg_app, seg_zero (fun j h1 h2 => hz j (by omega)), Nat.zero_mul, Nat.zero_add, Nat.zero_add, Nat.add_sub_cancel_left]
  rfl
theorem bI_mk {z : State} {H : Heap} {a m n : Nat} {d : Nat → Nat} {V : Nat} (hO : gO z true RJ22 TJ22 6 H a [.int 1, .ref m, .int 0, .int 0, .int 0, .int 0]) (hM : gI z true .int H m n (dI d)) (hd : ∀ i, d i < 4294967296) (hv : val d n = V) (hV : 0 < V) (h0 : d 0 ≠ 0) (hn : n < 1000) : bI z true H a m n d (V : Int) := by
  refine ⟨0, 0, 0, 0, ?_, hM, hd, by rw [hv]; omega, fun _ => h0, hn, Or.inl ⟨rfl, rfl⟩, Or.inl ⟨rfl, rfl⟩⟩
  rw [sg_pos (by omega)]
  exact hO

set_option maxHeartbeats 1000000 in
theorem m_mulInt (l : Launch) (z : State) (H0 : Heap) (b : Nat) (Y n : Nat) (w : Bool) (d : Nat → Nat) (hY1 : 0 < Y) (hY9 : Y < 4294967296) (hn0 : 0 < n) (hn9 : n < 500) (h00 : d 0 ≠ 0) (hd : ∀ i, d i < 4294967296) (hM : gI z w .int H0 b n (dI d)) (hzw : zW z) : Met l yJ22_multiplyByInt (ws_ yJ22_multiplyByInt cJ22_multiplyByInt 13 (some (.object "java/math/BigInteger"))) { frames := 3, cells := 3, slots := (2 * n + 7), locals := 86 } (gPc z H0 [.ref b, .int (nI Y), .int 1]) (gRr (gfr H0) H0 (fun r H1 => ∃ m1 n1 d1, H0.size ≤ r ∧ H0.size ≤ m1 ∧ bI z true H1 r m1 n1 d1 ((val d n * Y : Nat) : Int))) 3 (2 * n + 7) (gfr H0) := by
  refine g_start (by decide +kernel) (Nat.le_of_ble_eq_true rfl) ?_
  intro p e s m below meth c ls hx hb hr hlocks hml hown hname hts hwm hl
  have hown : s.vm.findClass "java/math/BigInteger" = some m.cls := hown
  have hal : z.vm.Alike s.vm := hwm.alike
  have hCF : CallFix p m c cJ22_multiplyByInt 13 s [.ref b, .int (nI Y), .int 1].toArray lw_all "java/math/BigInteger" := ⟨hx, hb, hml, hown, hts⟩
  have hl : lv_has ls 13 [(0, .ref b), (1, .int (nI Y)), (2, .int 1)] := hl
  have hS : va_S (gfr H0) H0 H0 [] := va_S.rf
  have hVp := val_pos hn0 h00
  have lt_b := hM.lt
  refine lv_iload_n hx hb dJ22_multiplyByInt_0 rfl (lv_at hl 1 rfl) ?_
  refine gcS1_iP hCF hwm hl.1 (m_bitCount l z H0  Y hY9 ) (lw_S q864 q865 q78 q866) yd_J17_bitCount ⟨Nat.le_of_ble_eq_true rfl, Nat.le_of_ble_eq_true rfl⟩ ⟨by first | omega | (dsimp only; omega), by first | omega | (dsimp only; omega)⟩ (Nat.le_of_ble_eq_true rfl) dJ22_multiplyByInt_1 (fun r_1 hp => ?_)
  subst hp
  have hb9 := (bc_bd hY9).2.2.2.2.2
  refine lv_iconst (v := 1) hx hb dJ22_multiplyByInt_4 (by decide) ?_
  refine lv_icmp_ne (tgt := 25) hx hb dJ22_multiplyByInt_5 (by decide) (fun c_5 => ?_) (fun c_5 => ?_)
  · skip
    have c_5 := mt (ai_eq (a := (bc5 Y)) (b := 1) (rfl) (rfl) (by omega) (by omega)).mpr c_5
    refine lv_aload_n hx hb dJ22_multiplyByInt_25 rfl (lv_at hl 0 rfl) ?_
    refine gw_len hx hb hal hM dJ22_multiplyByInt_26 ?_
    refine lv_istore_n hx hb dJ22_multiplyByInt_27 rfl hl (by decide) rfl (fun ls hl => ?_)
    have hl : lv_has ls 13 [(3, .int (nI n)), (0, .ref b), (1, .int (nI Y)), (2, .int 1)] := hl
    refine lv_iload_n hx hb dJ22_multiplyByInt_28 rfl (lv_at hl 0 rfl) ?_
    refine lv_iconst (v := 1) hx hb dJ22_multiplyByInt_29 (by decide) ?_
    refine lv_iadd hx hb dJ22_multiplyByInt_30 ?_
    refine g_topi (v := nI (n + 1)) (ai_add (a := n) (b := 1) (rfl) (rfl)) ?_
    have hsz := hS.1
    have lt_b := hM.lt
    refine gw_newa (atype := .int) (ty := .int) (N' := (n + 1)) hx hb (hts _ q990) rfl hal hS (rfl) (by omega) (by simp [componentBytes]; omega) (by first | omega | (dsimp only; omega)) (by first | omega | (dsimp only; omega)) dJ22_multiplyByInt_31 (fun qz H_2 eqz zqz hgx h_qz hS => ?_)
    have hM := hM.x hgx
    have h_qz : gI z true .int H_2 qz (n + 1) (fun _ => 0) := h_qz
    have h_qz : gI z true .int H_2 qz (n + 1) (dI (fun _ => 0)) := h_qz
    refine lv_astore hx hb dJ22_multiplyByInt_33 hl (by decide) rfl (fun ls hl => ?_)
    have hl : lv_has ls 13 [(4, .ref qz), (3, .int (nI n)), (0, .ref b), (1, .int (nI Y)), (2, .int 1)] := hl
    refine lv_lconst (v := 0) hx hb dJ22_multiplyByInt_35 (by decide) ?_
    refine lv_lstore hx hb dJ22_multiplyByInt_36 hl (by decide) rfl (fun ls hl => ?_)
    have hl : lv_has ls 13 [(5, .long 0), (4, .ref qz), (3, .int (nI n)), (0, .ref b), (1, .int (nI Y)), (2, .int 1)] := hl
    refine lv_iload_n hx hb dJ22_multiplyByInt_38 rfl (lv_at hl 4 rfl) ?_
    refine lv_i2l hx hb dJ22_multiplyByInt_39 rfl ?_
    refine lv_ldc2 (v := 4294967295) hx hb hown (hts _ q1228) dJ22_multiplyByInt_40 ?_
    refine lv_land hx hb dJ22_multiplyByInt_43 ?_
    refine g_topl (v := lN Y) (mk32 (a := Y) (rfl) (hY9)) ?_
    refine lv_lstore hx hb dJ22_multiplyByInt_44 hl (by decide) rfl (fun ls hl => ?_)
    have hl : lv_has ls 13 [(7, .long (lN Y)), (5, .long 0), (4, .ref qz), (3, .int (nI n)), (0, .ref b), (1, .int (nI Y)), (2, .int 1)] := hl
    refine lv_aload hx hb dJ22_multiplyByInt_46 (lv_at hl 2 rfl) ?_
    refine gw_len hx hb hal h_qz dJ22_multiplyByInt_48 ?_
    refine lv_iconst (v := 1) hx hb dJ22_multiplyByInt_49 (by decide) ?_
    refine lv_isub hx hb dJ22_multiplyByInt_50 ?_
    refine g_topi (v := nI n) (ai_sub (a := (n + 1)) (b := 1) (rfl) (rfl) (by omega)) ?_
    refine lv_istore hx hb dJ22_multiplyByInt_51 hl (by decide) rfl (fun ls hl => ?_)
    have hl : lv_has ls 13 [(9, .int (nI n)), (7, .long (lN Y)), (5, .long 0), (4, .ref qz), (3, .int (nI n)), (0, .ref b), (1, .int (nI Y)), (2, .int 1)] := hl
    refine lv_iload_n hx hb dJ22_multiplyByInt_53 rfl (lv_at hl 4 rfl) ?_
    refine lv_iconst (v := 1) hx hb dJ22_multiplyByInt_54 (by decide) ?_
    refine lv_isub hx hb dJ22_multiplyByInt_55 ?_
    refine g_topi (v := nI (n - 1)) (ai_sub (a := n) (b := 1) (rfl) (rfl) (by omega)) ?_
    refine lv_istore hx hb dJ22_multiplyByInt_56 hl (by decide) rfl (fun ls hl => ?_)
    have hl : lv_has ls 13 [(10, .int (nI (n - 1))), (9, .int (nI n)), (7, .long (lN Y)), (5, .long 0), (4, .ref qz), (3, .int (nI n)), (0, .ref b), (1, .int (nI Y)), (2, .int 1)] := hl
    replace hl : lv_has ls 13 [(10, .int (iI ((n : Int) - 1))), (9, .int (nI n)), (7, .long (lN Y)), (5, .long (lN 0)), (4, .ref qz), (3, .int (nI n)), (0, .ref b), (1, .int (nI Y)), (2, .int 1)] := by
      rw [show (iI ((n : Int) - 1)) = nI (n - 1) by rw [nI_iI]; exact congrArg iI (by omega)]
      exact hl
    have loopM : ∀ (n_ : Nat) (t kk : Nat) (ee : Nat → Nat), (t ≤ n) → (kk < 4294967296) → (∀ i, ee i < 4294967296) → (∀ i, i < 1 + t → ee i = 0) → (seg ee (1 + t) (n - t) + kk * 4294967296 ^ (n - t) = Y * seg d t (n - t)) → (t) < n_ → ∀ (H_3 : Heap) (locs : List Loc), va_S (gfr H0) H0 H_3 locs → gI z w .int H_3 b n (dI d) → gI z true .int H_3 qz (n + 1) (dI ee) → ∀ (ls : Array Slot), lv_has ls 13 [(10, .int (iI ((t : Int) - 1))), (9, .int (nI t)), (7, .long (lN Y)), (5, .long (lN kk)), (4, .ref qz), (3, .int (nI n)), (0, .ref b), (1, .int (nI Y)), (2, .int 1)] → W p l e { frames := 3, cells := 3, slots := (2 * n + 7), locals := 86 } s m [.ref b, .int (nI Y), .int 1].toArray below meth c H_3 locs 1 (0 + (n + 1)) (MQ below (gRr (gfr H0) H0 (fun r H1 => ∃ m1 n1 d1, H0.size ≤ r ∧ H0.size ≤ m1 ∧ bI z true H1 r m1 n1 d1 ((val d n * Y : Nat) : Int))) [.ref b, .int (nI Y), .int 1].toArray s 3 (2 * n + 7) (gfr H0)) (F0 m 58 ls []) := by
      intro n_
      induction n_ with
      | zero => intro t kk ee ht hkk hee hz0 hs hm_; exact absurd hm_ (Nat.not_lt_zero _)
      | succ n_ ih_loopM =>
        intro t kk ee ht hkk hee hz0 hs hm_ H_3 locs hS hM h_qz ls hl
        refine lv_iload hx hb dJ22_multiplyByInt_58 (lv_at hl 0 rfl) ?_
        refine lv_if_lt (tgt := 104) hx hb dJ22_multiplyByInt_60 (by decide) (fun c_60 => ?_) (fun c_60 => ?_)
        · skip
          have c_60 := (ai_ltI (a := ((t : Int) - 1)) (b := 0) (rfl) (by decide) (by omega) (by omega) (by omega) (by omega)).mp c_60
          refine lv_lload hx hb dJ22_multiplyByInt_104 (lv_at hl 3 rfl) ?_
          refine lv_lconst (v := 0) hx hb dJ22_multiplyByInt_106 (by decide) ?_
          refine W.lcmp hx hb dJ22_multiplyByInt_107 ?_
          refine lv_if_ne (tgt := 125) hx hb dJ22_multiplyByInt_108 (by decide) (fun c_108 => ?_) (fun c_108 => ?_)
          · skip
            have c_108 := mt (ai_ceq (a := (kk : Nat)) (b := 0) (lN_lI _) (by decide) (by omega) (by omega) (by omega) (by omega)).mpr c_108
            refine lv_aload hx hb dJ22_multiplyByInt_125 (lv_at hl 4 rfl) ?_
            refine lv_iload hx hb dJ22_multiplyByInt_127 (lv_at hl 1 rfl) ?_
            refine lv_lload hx hb dJ22_multiplyByInt_129 (lv_at hl 3 rfl) ?_
            refine lv_l2i hx hb dJ22_multiplyByInt_131 rfl ?_
            refine g_topi (v := nI kk) (ai_l2i (rfl)) ?_
            refine gw_iast (f := (dI ee)) hx hb hal h_qz hS (by have hsz := hS.1; (try dsimp only [gfr]) <;> omega) t (rfl) (by omega) (by omega) dJ22_multiplyByInt_132 (fun H_4 locs h_new hch hS => ?_)
            have hM := hM.ch hch (by omega)
            have sz_H_4 := hch.1
            clear hch
            have h_qz : gI z true .int H_4 qz (n + 1) (upd (dI ee) t (nI kk)) := h_new
            replace h_qz : gI z true .int H_4 qz (n + 1) (dI (dup ee t (kk % 4294967296))) := by
              have q := h_qz
              rw [dI_put] at q
              exact q
            have bd_5 : ∀ i, (dup ee t (kk % 4294967296)) i < 4294967296 := dup_lt hee (Nat.mod_lt _ (by decide))
            have hsz := hS.1
            have lt_b := hM.lt
            have lt_qz := h_qz.lt
            refine gw_new (C := RJ22) (T := TJ22) (N := 6) (fs := [.int 0, .null, .int 0, .int 0, .int 0, .int 0]) hx hb hts in_J22 tyJ22 tyJ22_ok hown hal (hts _ q818) (hts _ q819) (hts _ q83) hS (by decide +kernel) (by first | omega | (dsimp only; omega)) (by first | omega | (dsimp only; omega)) dJ22_multiplyByInt_133 (fun qo2 H_6 eqo2 zqo2 hgx h_qo2 hS => ?_)
            have hM := hM.x hgx
            have h_qz := h_qz.x hgx
            refine lv_dup hx hb dJ22_multiplyByInt_136 rfl ?_
            refine lv_aload hx hb dJ22_multiplyByInt_137 (lv_at hl 4 rfl) ?_
            refine lv_iload_n hx hb dJ22_multiplyByInt_139 rfl (lv_at hl 8 rfl) ?_
            have hsz := hS.1
            refine gcI2_v hCF hwm hl.1 (m_bigInit l z H_6 qo2 qz 1 (n + 1) (dup ee t (kk % 4294967296)) true (by omega) (by omega) h_qo2 h_qz ) q820 q821 q83 q822 rfl yd_J22_init hS (fun q h => by have hsz := hS.1; (try dsimp only [gfr] at h ⊢) <;> omega) ⟨Nat.le_of_ble_eq_true rfl, Nat.le_of_ble_eq_true rfl⟩ ⟨by first | omega | (dsimp only; omega), by first | omega | (dsimp only; omega)⟩ (Nat.le_of_ble_eq_true rfl) dJ22_multiplyByInt_140 (fun H_7 locs hp hex hS => ?_)
            have sz_H_7 : H_6.size ≤ H_7.size := hex.1
            have hM := hM.ex hex (by intro h; (try dsimp only [gfr] at h) <;> omega)
            have h_qz := h_qz.ex hex (by intro h; (try dsimp only [gfr] at h) <;> omega)
            have hB := hp
            refine g_aret hx hb hr hlocks (Or.inl ⟨_, rfl⟩) hS (by first | omega | (dsimp only; omega)) (by first | omega | (dsimp only; omega)) ?_ dJ22_multiplyByInt_143
            have e0 : t = 0 := by omega
            subst e0
            rw [Nat.sub_zero, seg_0, show 1 + 0 = 1 from rfl] at hs
            have hN := bI_mk hB h_qz bd_5 (V := val d n * Y) (by rw [← seg_0, seg_l, Nat.zero_add, dup_s, Nat.mod_eq_of_lt hkk, seg_cg (e := ee) (fun i h1 h2 => dup_n (by omega)), Nat.add_comm, hs, Nat.mul_comm]) (Nat.mul_pos hVp hY1) (by rw [dup_s, Nat.mod_eq_of_lt hkk]; omega) (by omega)
            exact ⟨qz, _, _, by omega, by omega, hN⟩
          · skip
            have c_108 := (ai_ceq (a := (kk : Nat)) (b := 0) (lN_lI _) (by decide) (by omega) (by omega) (by omega) (by omega)).mp c_108
            refine lv_aload hx hb dJ22_multiplyByInt_111 (lv_at hl 4 rfl) ?_
            refine lv_iconst (v := 1) hx hb dJ22_multiplyByInt_113 (by decide) ?_
            refine lv_aload hx hb dJ22_multiplyByInt_114 (lv_at hl 4 rfl) ?_
            refine gw_len hx hb hal h_qz dJ22_multiplyByInt_116 ?_
            have hsz := hS.1
            refine gcS3_r hCF hwm hl.1 (m_copyRangeI l z H_3 qz 1 (n + 1) (n + 1) ee (by omega) (Nat.le_refl _) (by omega) h_qz hzw ) (lw_S q1255 q1017 q73 q1018) yd_J13_copyOfRange_2 hS (fun q h => Nat.le_trans hS.1 h) ⟨Nat.le_of_ble_eq_true rfl, Nat.le_of_ble_eq_true rfl⟩ ⟨by first | omega | (dsimp only; omega), by first | omega | (dsimp only; omega)⟩ (Nat.le_of_ble_eq_true rfl) dJ22_multiplyByInt_117 (fun rc H_9 locs hp hex hS => ?_)
            have sz_H_9 : H_3.size ≤ H_9.size := hex.1
            have hgx := hex.x
            clear hex
            have hM := hM.x hgx
            have h_qz := h_qz.x hgx
            obtain ⟨hr1, hcp⟩ := hp
            have lt_rc := hcp.lt
            refine lv_astore hx hb dJ22_multiplyByInt_120 hl (by decide) rfl (fun ls hl => ?_)
            have hl : lv_has ls 13 [(4, .ref rc), (10, .int (iI ((t : Int) - 1))), (9, .int (nI t)), (7, .long (lN Y)), (5, .long (lN kk)), (3, .int (nI n)), (0, .ref b), (1, .int (nI Y)), (2, .int 1)] := hl
            refine lv_goto (tgt := 133) hx hb dJ22_multiplyByInt_122 (by decide) ?_
            have hsz := hS.1
            have lt_b := hM.lt
            have lt_qz := h_qz.lt
            have lt_rc := hcp.lt
            refine gw_new (C := RJ22) (T := TJ22) (N := 6) (fs := [.int 0, .null, .int 0, .int 0, .int 0, .int 0]) hx hb hts in_J22 tyJ22 tyJ22_ok hown hal (hts _ q818) (hts _ q819) (hts _ q83) hS (by decide +kernel) (by first | omega | (dsimp only; omega)) (by first | omega | (dsimp only; omega)) dJ22_multiplyByInt_133 (fun qo2 H_10 eqo2 zqo2 hgx h_qo2 hS => ?_)
            have hM := hM.x hgx
            have h_qz := h_qz.x hgx
            have hcp := hcp.x hgx
            refine lv_dup hx hb dJ22_multiplyByInt_136 rfl ?_
            refine lv_aload hx hb dJ22_multiplyByInt_137 (lv_at hl 0 rfl) ?_
            refine lv_iload_n hx hb dJ22_multiplyByInt_139 rfl (lv_at hl 8 rfl) ?_
            have hsz := hS.1
            refine gcI2_v hCF hwm hl.1 (m_bigInit l z H_10 qo2 rc 1 (n + 1 - 1) (fun i => ee (1 + i)) true (by omega) (by omega) h_qo2 hcp ) q820 q821 q83 q822 rfl yd_J22_init hS (fun q h => by have hsz := hS.1; (try dsimp only [gfr] at h ⊢) <;> omega) ⟨Nat.le_of_ble_eq_true rfl, Nat.le_of_ble_eq_true rfl⟩ ⟨by first | omega | (dsimp only; omega), by first | omega | (dsimp only; omega)⟩ (Nat.le_of_ble_eq_true rfl) dJ22_multiplyByInt_140 (fun H_11 locs hp hex hS => ?_)
            have sz_H_11 : H_10.size ≤ H_11.size := hex.1
            have hM := hM.ex hex (by intro h; (try dsimp only [gfr] at h) <;> omega)
            have h_qz := h_qz.ex hex (by intro h; (try dsimp only [gfr] at h) <;> omega)
            have hcp := hcp.ex hex (by intro h; (try dsimp only [gfr] at h) <;> omega)
            have hB := hp
            refine g_aret hx hb hr hlocks (Or.inl ⟨_, rfl⟩) hS (by first | omega | (dsimp only; omega)) (by first | omega | (dsimp only; omega)) ?_ dJ22_multiplyByInt_143
            have e0 : t = 0 := by omega
            subst e0
            have e1 : kk = 0 := by omega
            subst e1
            rw [Nat.sub_zero, Nat.zero_mul, Nat.add_zero, seg_0, show 1 + 0 = 1 from rfl] at hs
            have hcp2 : gI z true .int H_11 rc n (dI (fun i => ee (1 + i))) := by
              have q := hcp
              rwa [show n + 1 - 1 = n by omega] at q
            have hle := lead_le hn0 h00
            have hmul : val d n ≤ Y * val d n := Nat.le_mul_of_pos_left _ hY1
            have hN := bI_mk hB hcp2 (fun i => hee (1 + i)) (V := val d n * Y) (by rw [val_s, hs, Nat.mul_comm]) (Nat.mul_pos hVp hY1) (lead_nz (d := fun i => ee (1 + i)) (fun i => hee (1 + i)) hn0 (by rw [val_s, hs]; omega)) (by omega)
            exact ⟨rc, _, _, by omega, by omega, hN⟩
        · skip
          have c_60 := mt (ai_ltI (a := ((t : Int) - 1)) (b := 0) (rfl) (by decide) (by omega) (by omega) (by omega) (by omega)).mpr c_60
          replace hl : lv_has ls 13 [(10, .int (nI (t - 1))), (9, .int (nI t)), (7, .long (lN Y)), (5, .long (lN kk)), (4, .ref qz), (3, .int (nI n)), (0, .ref b), (1, .int (nI Y)), (2, .int 1)] := by
            rw [show nI (t - 1) = iI ((t : Int) - 1) by rw [nI_iI]; exact congrArg iI (by omega)]
            exact hl
          refine lv_aload_n hx hb dJ22_multiplyByInt_63 rfl (lv_at hl 6 rfl) ?_
          refine lv_iload hx hb dJ22_multiplyByInt_64 (lv_at hl 0 rfl) ?_
          refine gw_iald hx hb hal hM (t - 1) (rfl) (by omega) (by omega) dJ22_multiplyByInt_66 ?_
          refine g_topi (v := (nI (d (t - 1)))) rfl ?_
          refine lv_i2l hx hb dJ22_multiplyByInt_67 rfl ?_
          refine lv_ldc2 (v := 4294967295) hx hb hown (hts _ q1228) dJ22_multiplyByInt_68 ?_
          refine lv_land hx hb dJ22_multiplyByInt_71 ?_
          refine g_topl (v := lN (d (t - 1))) (mk32 (a := (d (t - 1))) (rfl) (hd _)) ?_
          refine lv_lload hx hb dJ22_multiplyByInt_72 (lv_at hl 2 rfl) ?_
          refine lv_lmul hx hb dJ22_multiplyByInt_74 ?_
          refine g_topl (v := lN ((d (t - 1)) * Y)) (ai_mulL (a := (d (t - 1))) (b := Y) (rfl) (rfl)) ?_
          refine lv_lload hx hb dJ22_multiplyByInt_75 (lv_at hl 3 rfl) ?_
          refine lv_ladd hx hb dJ22_multiplyByInt_77 ?_
          refine g_topl (v := lN (((d (t - 1)) * Y) + kk)) (ai_addL (a := ((d (t - 1)) * Y)) (b := kk) (rfl) (rfl)) ?_
          obtain ⟨P, hP⟩ : ∃ P : Nat, P = (((d (t - 1)) * Y) + kk) := ⟨_, rfl⟩
          refine g_topl (v := lN P) (by rw [hP]) ?_
          have hP9 : P < 18446744073709551616 := by rw [hP]; have := mul_bd (hd (t - 1)) hY9 (show 0 < 4294967296 by decide) hkk; omega
          refine lv_lstore hx hb dJ22_multiplyByInt_78 hl (by decide) rfl (fun ls hl => ?_)
          have hl : lv_has ls 13 [(11, .long (lN P)), (10, .int (nI (t - 1))), (9, .int (nI t)), (7, .long (lN Y)), (5, .long (lN kk)), (4, .ref qz), (3, .int (nI n)), (0, .ref b), (1, .int (nI Y)), (2, .int 1)] := hl
          refine lv_aload hx hb dJ22_multiplyByInt_80 (lv_at hl 5 rfl) ?_
          refine lv_iload hx hb dJ22_multiplyByInt_82 (lv_at hl 2 rfl) ?_
          refine lv_iinc (k := 2) (v := (nI (t - 1))) hx hb dJ22_multiplyByInt_84 hl rfl (ai_sbn (a := t) (b := 1) (rfl) (show Int32.ofInt (-1) = -nI 1 by decide) (by omega)) (by decide) rfl (fun ls hl => ?_)
          have hl : lv_has ls 13 [(9, .int (nI (t - 1))), (11, .long (lN P)), (10, .int (nI (t - 1))), (7, .long (lN Y)), (5, .long (lN kk)), (4, .ref qz), (3, .int (nI n)), (0, .ref b), (1, .int (nI Y)), (2, .int 1)] := hl
          refine lv_lload hx hb dJ22_multiplyByInt_87 (lv_at hl 1 rfl) ?_
          refine lv_l2i hx hb dJ22_multiplyByInt_89 rfl ?_
          refine g_topi (v := nI P) (ai_l2i (rfl)) ?_
          refine gw_iast (f := (dI ee)) hx hb hal h_qz hS (by have hsz := hS.1; (try dsimp only [gfr]) <;> omega) t (rfl) (by omega) (by omega) dJ22_multiplyByInt_90 (fun H_13 locs h_new hch hS => ?_)
          have hM := hM.ch hch (by omega)
          have sz_H_13 := hch.1
          clear hch
          have h_qz : gI z true .int H_13 qz (n + 1) (upd (dI ee) t (nI P)) := h_new
          replace h_qz : gI z true .int H_13 qz (n + 1) (dI (dup ee t (P % 4294967296))) := by
            have q := h_qz
            rw [dI_put] at q
            exact q
          have bd_14 : ∀ i, (dup ee t (P % 4294967296)) i < 4294967296 := dup_lt hee (Nat.mod_lt _ (by decide))
          refine lv_lload hx hb dJ22_multiplyByInt_91 (lv_at hl 1 rfl) ?_
          refine lv_bipush (v := 32) hx hb dJ22_multiplyByInt_93 (by decide) ?_
          refine lv_lushr hx hb dJ22_multiplyByInt_95 rfl ?_
          refine g_topl (v := lN (P / 4294967296)) (lN_shr32 (a := P) (hP9)) ?_
          refine lv_lstore hx hb dJ22_multiplyByInt_96 hl (by decide) rfl (fun ls hl => ?_)
          have hl : lv_has ls 13 [(5, .long (lN (P / 4294967296))), (9, .int (nI (t - 1))), (11, .long (lN P)), (10, .int (nI (t - 1))), (7, .long (lN Y)), (4, .ref qz), (3, .int (nI n)), (0, .ref b), (1, .int (nI Y)), (2, .int 1)] := hl
          refine lv_iinc (k := 3) (v := (iI (((t - 1 : Nat) : Int) - 1))) hx hb dJ22_multiplyByInt_98 hl rfl (by rw [nI_iI, show Int32.ofInt (-1) = iI (-1) from rfl, iI_add]; exact congrArg iI (by omega)) (by decide) rfl (fun ls hl => ?_)
          have hl : lv_has ls 13 [(10, .int (iI (((t - 1 : Nat) : Int) - 1))), (5, .long (lN (P / 4294967296))), (9, .int (nI (t - 1))), (11, .long (lN P)), (7, .long (lN Y)), (4, .ref qz), (3, .int (nI n)), (0, .ref b), (1, .int (nI Y)), (2, .int 1)] := hl
          refine lv_goto (tgt := 58) hx hb dJ22_multiplyByInt_101 (by decide) ?_
          exact ih_loopM (t - 1) (P / 4294967296) (dup ee t (P % 4294967296)) (by omega) (by omega) bd_14 (fun i hi => by rw [dup_n (by omega)]; exact hz0 i (by omega)) (by have q := mulA0 (o := 1) (t := n - t) (by omega) hP hs rfl; rw [show 1 + (t - 1) = 1 + t - 1 by omega, show n - (t - 1) = n - t + 1 by omega]; rw [show 1 + t - 1 = t by omega] at *; exact q) (by omega) H_13 _ hS hM h_qz ls (lv_sub hl [0, 2, 4, 1, 5, 6, 7, 8, 9] rfl)
    exact loopM _ n 0 (fun _ => 0) (Nat.le_refl _) (by decide) (fun _ => by decide) (fun _ _ => rfl) (by simp [seg_z]) (Nat.lt_succ_self _) H_2 _ hS hM h_qz ls (lv_sub hl [0, 1, 2, 3, 4, 5, 6, 7, 8] rfl)
  · skip
    have c_5 := (ai_eq (a := (bc5 Y)) (b := 1) (rfl) (rfl) (by omega) (by omega)).mp c_5
    obtain ⟨ky, hky, hY2⟩ := bc5_1 hY9 c_5
    have hntz := ntzI_ok hY9 hY1 (t := ky) (by rw [hY2]; exact Nat.mod_self _) (by rw [hY2, Nat.div_self (Nat.two_pow_pos _)])
    have hsz := hS.1
    have lt_b := hM.lt
    refine gw_new (C := RJ22) (T := TJ22) (N := 6) (fs := [.int 0, .null, .int 0, .int 0, .int 0, .int 0]) hx hb hts in_J22 tyJ22 tyJ22_ok hown hal (hts _ q818) (hts _ q819) (hts _ q83) hS (by decide +kernel) (by first | omega | (dsimp only; omega)) (by first | omega | (dsimp only; omega)) dJ22_multiplyByInt_8 (fun qo H_15 eqo zqo hgx h_qo hS => ?_)
    have hM := hM.x hgx
    refine lv_dup hx hb dJ22_multiplyByInt_11 rfl ?_
    refine lv_aload_n hx hb dJ22_multiplyByInt_12 rfl (lv_at hl 0 rfl) ?_
    refine lv_iload_n hx hb dJ22_multiplyByInt_13 rfl (lv_at hl 1 rfl) ?_
    refine gcS1_iP hCF hwm hl.1 (m_ntzI l z H_15 (nI Y)  ) (lw_S q1317 q388 q78 q389) yd_J17_numberOfTrailingZeros ⟨Nat.le_of_ble_eq_true rfl, Nat.le_of_ble_eq_true rfl⟩ ⟨by first | omega | (dsimp only; omega), by first | omega | (dsimp only; omega)⟩ (Nat.le_of_ble_eq_true rfl) dJ22_multiplyByInt_14 (fun r_16 hp => ?_)
    subst hp
    rw [hntz]
    have hsz := hS.1
    refine gcS2_r hCF hwm hl.1 (m_shlA l z H_15 b ky n w d hn0 (by omega) (by omega) h00 hd hM ) (lw_S q1277 q1278 q83 q1279) yd_J22_shiftLeft_2 hS (fun q h => Nat.le_trans hS.1 h) ⟨Nat.le_of_ble_eq_true rfl, Nat.le_of_ble_eq_true rfl⟩ ⟨by first | omega | (dsimp only; omega), by first | omega | (dsimp only; omega)⟩ (Nat.le_of_ble_eq_true rfl) dJ22_multiplyByInt_17 (fun rs H_17 locs hp hex hS => ?_)
    have sz_H_17 : H_15.size ≤ H_17.size := hex.1
    have hgx := hex.x
    clear hex
    have hM := hM.x hgx
    have h_qo := h_qo.x hgx
    obtain ⟨hsh1, es, ln, hsh2, hsh3, hsh4, hsh5, hsh6, hsh7⟩ := hp
    have lt_rs := hsh3.lt
    refine lv_iload_n hx hb dJ22_multiplyByInt_20 rfl (lv_at hl 2 rfl) ?_
    have hsz := hS.1
    refine gcI2_v hCF hwm hl.1 (m_bigInit l z H_17 qo rs 1 ln es true hsh6 (by omega) h_qo hsh3 ) q820 q821 q83 q822 rfl yd_J22_init hS (fun q h => by have hsz := hS.1; (try dsimp only [gfr] at h ⊢) <;> omega) ⟨Nat.le_of_ble_eq_true rfl, Nat.le_of_ble_eq_true rfl⟩ ⟨by first | omega | (dsimp only; omega), by first | omega | (dsimp only; omega)⟩ (Nat.le_of_ble_eq_true rfl) dJ22_multiplyByInt_21 (fun H_18 locs hp hex hS => ?_)
    have sz_H_18 : H_17.size ≤ H_18.size := hex.1
    have hM := hM.ex hex (by intro h; (try dsimp only [gfr] at h) <;> omega)
    have hsh3 := hsh3.ex hex (by intro h; (try dsimp only [gfr] at h) <;> omega)
    have hB := hp
    refine g_aret hx hb hr hlocks (Or.inl ⟨_, rfl⟩) hS (by first | omega | (dsimp only; omega)) (by first | omega | (dsimp only; omega)) ?_ dJ22_multiplyByInt_24
    have hN := bI_mk hB hsh3 hsh2 (V := val d n * Y) (by rw [hsh4, hY2]) (Nat.mul_pos hVp (by omega)) hsh5 (by omega)
    exact ⟨rs, _, _, by omega, by omega, hN⟩
set_option maxHeartbeats 1000000 in
theorem m_mul4 (l : Launch) (z : State) (H0 : Heap) (a : Nat) (x : Nat) (V1 V2 : Nat) (w1 w2 : Bool) (m1 n1 m2 n2 : Nat) (d1 d2 : Nat → Nat) (hV1 : 0 < V1) (hV2 : 0 < V2) (hn91 : n1 ≤ 20) (hn92 : n2 ≤ 20) (hb1 : bI z w1 H0 a m1 n1 d1 V1) (hb2 : bI z w2 H0 x m2 n2 d2 V2) (hzw : zW z) : Met l yJ22_multiply_2 (ws_ yJ22_multiply_2 cJ22_multiply_2 9 (some (.object "java/math/BigInteger"))) { frames := 4, cells := 3, slots := (2 * (n1 + n2) + 7), locals := 118 } (gPc z H0 [.ref a, .ref x, .int 0, .int 0, .int 0]) (gRr (gfr H0) H0 (fun r H1 => ∃ mr nr dr, H0.size ≤ r ∧ H0.size ≤ mr ∧ bI z true H1 r mr nr dr ((V1 * V2 : Nat) : Int))) 3 (2 * (n1 + n2) + 7) (gfr H0) := by
  refine g_start (by decide +kernel) (Nat.le_of_ble_eq_true rfl) ?_
  intro p e s m below meth c ls hx hb hr hlocks hml hown hname hts hwm hl
  have hown : s.vm.findClass "java/math/BigInteger" = some m.cls := hown
  have hal : z.vm.Alike s.vm := hwm.alike
  have hCF : CallFix p m c cJ22_multiply_2 9 s [.ref a, .ref x, .int 0, .int 0, .int 0].toArray lw_all "java/math/BigInteger" := ⟨hx, hb, hml, hown, hts⟩
  have hl : lv_has ls 9 [(0, .ref a), (1, .ref x), (2, .int 0), (3, .int 0), (4, .int 0)] := hl
  have hS : va_S (gfr H0) H0 H0 [] := va_S.rf
  obtain ⟨c11, c21, c31, c41, hO1, hM1, hd1, hv1, h01, hn1, hca1⟩ := hb1
  rw [sg_pos (show (0 : Int) < (V1 : Int) by omega)] at hO1
  have hv1 : val d1 n1 = V1 := by rw [hv1]; omega
  have hnp1 := n_pos hv1 hV1
  have h01 := h01 hnp1
  obtain ⟨c12, c22, c32, c42, hO2, hM2, hd2, hv2, h02, hn2, hca2⟩ := hb2
  rw [sg_pos (show (0 : Int) < (V2 : Int) by omega)] at hO2
  have hv2 : val d2 n2 = V2 := by rw [hv2]; omega
  have hnp2 := n_pos hv2 hV2
  have h02 := h02 hnp2
  have lt_a := hO1.lt
  have lt_m1 := hM1.lt
  have lt_x := hO2.lt
  have lt_m2 := hM2.lt
  refine lv_aload_n hx hb dJ22_multiply_2_0 rfl (lv_at hl 1 rfl) ?_
  refine gw_get (C := RJ22) (T := TJ22) (N := 6) (v := .int 1) hx hb hts in_J22 hown hal hO2 0 (by decide) (hts _ q835) (fun _ h9 => h9) rfl dJ22_multiply_2_1 ?_
  refine lv_if_eq (tgt := 14) hx hb dJ22_multiply_2_4 (by decide) (fun c_4 => absurd c_4 (by decide)) (fun c_4 => ?_)
  refine lv_aload_n hx hb dJ22_multiply_2_7 rfl (lv_at hl 0 rfl) ?_
  refine gw_get (C := RJ22) (T := TJ22) (N := 6) (v := .int 1) hx hb hts in_J22 hown hal hO1 0 (by decide) (hts _ q835) (fun _ h9 => h9) rfl dJ22_multiply_2_8 ?_
  refine lv_if_ne (tgt := 18) hx hb dJ22_multiply_2_11 (by decide) (fun c_11 => ?_) (fun c_11 => absurd c_11 (by decide))
  refine lv_aload_n hx hb dJ22_multiply_2_18 rfl (lv_at hl 0 rfl) ?_
  refine gw_get (C := RJ22) (T := TJ22) (N := 6) (v := .ref m1) hx hb hts in_J22 hown hal hO1 1 (by decide) (hts _ q837) (fun _ h9 => h9) rfl dJ22_multiply_2_19 ?_
  refine gw_len hx hb hal hM1 dJ22_multiply_2_22 ?_
  refine lv_istore hx hb dJ22_multiply_2_23 hl (by decide) rfl (fun ls hl => ?_)
  have hl : lv_has ls 9 [(5, .int (nI n1)), (0, .ref a), (1, .ref x), (2, .int 0), (3, .int 0), (4, .int 0)] := hl
  refine lv_aload_n hx hb dJ22_multiply_2_25 rfl (lv_at hl 2 rfl) ?_
  refine lv_aload_n hx hb dJ22_multiply_2_26 rfl (lv_at hl 1 rfl) ?_
  refine lv_acmp_ne (rx := some x) (ry := some a) (tgt := 46) hx hb dJ22_multiply_2_27 (by decide) (fun c_27 => ?_) (fun c_27 => ?_)
  · skip
    have c_27 : ¬ x = a := fun q => c_27 (congrArg some q)
    refine lv_aload_n hx hb dJ22_multiply_2_46 rfl (lv_at hl 2 rfl) ?_
    refine gw_get (C := RJ22) (T := TJ22) (N := 6) (v := .ref m2) hx hb hts in_J22 hown hal hO2 1 (by decide) (hts _ q837) (fun _ h9 => h9) rfl dJ22_multiply_2_47 ?_
    refine gw_len hx hb hal hM2 dJ22_multiply_2_50 ?_
    refine lv_istore hx hb dJ22_multiply_2_51 hl (by decide) rfl (fun ls hl => ?_)
    have hl : lv_has ls 9 [(6, .int (nI n2)), (5, .int (nI n1)), (0, .ref a), (1, .ref x), (2, .int 0), (3, .int 0), (4, .int 0)] := hl
    refine lv_iload hx hb dJ22_multiply_2_53 (lv_at hl 1 rfl) ?_
    refine lv_bipush (v := 80) hx hb dJ22_multiply_2_55 (by decide) ?_
    refine lv_icmp_lt (tgt := 67) hx hb dJ22_multiply_2_57 (by decide) (fun c_57 => ?_) (fun c_57 => False.elim (by
      have c_57 := mt (ai_lt (a := n1) (b := 80) (rfl) (rfl) (by omega) (by omega)).mpr c_57
      omega))
    have c_57 := (ai_lt (a := n1) (b := 80) (rfl) (rfl) (by omega) (by omega)).mp c_57
    refine lv_aload_n hx hb dJ22_multiply_2_67 rfl (lv_at hl 2 rfl) ?_
    refine gw_get (C := RJ22) (T := TJ22) (N := 6) (v := .int 1) hx hb hts in_J22 hown hal hO1 0 (by decide) (hts _ q835) (fun _ h9 => h9) rfl dJ22_multiply_2_68 ?_
    refine lv_aload_n hx hb dJ22_multiply_2_71 rfl (lv_at hl 3 rfl) ?_
    refine gw_get (C := RJ22) (T := TJ22) (N := 6) (v := .int 1) hx hb hts in_J22 hown hal hO2 0 (by decide) (hts _ q835) (fun _ h9 => h9) rfl dJ22_multiply_2_72 ?_
    refine lv_icmp_ne (tgt := 82) hx hb dJ22_multiply_2_75 (by decide) (fun c_75 => absurd (rfl) c_75) (fun c_75 => ?_)
    refine lv_iconst (v := 1) hx hb dJ22_multiply_2_78 (by decide) ?_
    refine lv_goto (tgt := 83) hx hb dJ22_multiply_2_79 (by decide) ?_
    refine lv_istore hx hb dJ22_multiply_2_83 hl (by decide) rfl (fun ls hl => ?_)
    have hl : lv_has ls 9 [(7, .int 1), (6, .int (nI n2)), (5, .int (nI n1)), (0, .ref a), (1, .ref x), (2, .int 0), (3, .int 0), (4, .int 0)] := hl
    refine lv_aload_n hx hb dJ22_multiply_2_85 rfl (lv_at hl 4 rfl) ?_
    refine gw_get (C := RJ22) (T := TJ22) (N := 6) (v := .ref m2) hx hb hts in_J22 hown hal hO2 1 (by decide) (hts _ q837) (fun _ h9 => h9) rfl dJ22_multiply_2_86 ?_
    refine gw_len hx hb hal hM2 dJ22_multiply_2_89 ?_
    refine lv_iconst (v := 1) hx hb dJ22_multiply_2_90 (by decide) ?_
    refine lv_icmp_ne (tgt := 110) hx hb dJ22_multiply_2_91 (by decide) (fun c_91 => ?_) (fun c_91 => ?_)
    · skip
      have c_91 := mt (ai_eq (a := n2) (b := 1) (rfl) (rfl) (by omega) (by omega)).mpr c_91
      refine lv_aload_n hx hb dJ22_multiply_2_110 rfl (lv_at hl 3 rfl) ?_
      refine gw_get (C := RJ22) (T := TJ22) (N := 6) (v := .ref m1) hx hb hts in_J22 hown hal hO1 1 (by decide) (hts _ q837) (fun _ h9 => h9) rfl dJ22_multiply_2_111 ?_
      refine gw_len hx hb hal hM1 dJ22_multiply_2_114 ?_
      refine lv_iconst (v := 1) hx hb dJ22_multiply_2_115 (by decide) ?_
      refine lv_icmp_ne (tgt := 135) hx hb dJ22_multiply_2_116 (by decide) (fun c_116 => ?_) (fun c_116 => ?_)
      · skip
        have c_116 := mt (ai_eq (a := n1) (b := 1) (rfl) (rfl) (by omega) (by omega)).mpr c_116
        refine lv_aload_n hx hb dJ22_multiply_2_135 rfl (lv_at hl 3 rfl) ?_
        refine gw_get (C := RJ22) (T := TJ22) (N := 6) (v := .ref m1) hx hb hts in_J22 hown hal hO1 1 (by decide) (hts _ q837) (fun _ h9 => h9) rfl dJ22_multiply_2_136 ?_
        refine lv_iload hx hb dJ22_multiply_2_139 (lv_at hl 2 rfl) ?_
        refine lv_aload_n hx hb dJ22_multiply_2_141 rfl (lv_at hl 4 rfl) ?_
        refine gw_get (C := RJ22) (T := TJ22) (N := 6) (v := .ref m2) hx hb hts in_J22 hown hal hO2 1 (by decide) (hts _ q837) (fun _ h9 => h9) rfl dJ22_multiply_2_142 ?_
        refine lv_iload hx hb dJ22_multiply_2_145 (lv_at hl 1 rfl) ?_
        refine lv_null hx hb dJ22_multiply_2_147 ?_
        have hsz := hS.1
        refine gcS5_r hCF hwm hl.1 (m_mulLen l z H0 m1 m2 n1 n2 w1 w2 d1 d2 hnp1 hnp2 (by omega) (by omega) hd1 hd2 hM1 hM2 ) (lw_S q1318 q1319 q83 q1320) yd_J22_multiplyToLen hS (fun q h => Nat.le_trans hS.1 h) ⟨Nat.le_of_ble_eq_true rfl, Nat.le_of_ble_eq_true rfl⟩ ⟨by first | omega | (dsimp only; omega), by first | omega | (dsimp only; omega)⟩ (Nat.le_of_ble_eq_true rfl) dJ22_multiply_2_148 (fun rm H_1 locs hp hex hS => ?_)
        have sz_H_1 : H0.size ≤ H_1.size := hex.1
        have hgx := hex.x
        clear hex
        have hO1 := hO1.x hgx
        have hM1 := hM1.x hgx
        have hO2 := hO2.x hgx
        have hM2 := hM2.x hgx
        obtain ⟨hml1, em, hml2, hml3, hml4⟩ := hp
        have lt_rm := hml3.lt
        refine lv_astore hx hb dJ22_multiply_2_151 hl (by decide) rfl (fun ls hl => ?_)
        have hl : lv_has ls 9 [(8, .ref rm), (7, .int 1), (6, .int (nI n2)), (5, .int (nI n1)), (0, .ref a), (1, .ref x), (2, .int 0), (3, .int 0), (4, .int 0)] := hl
        refine lv_aload hx hb dJ22_multiply_2_153 (lv_at hl 0 rfl) ?_
        have hsz := hS.1
        refine gcS1_r hCF hwm hl.1 (m_strip l z H_1 rm (n1 + n2) em (by omega) hml2 hml3 hzw ) (lw_S q1252 q1253 q83 q1254) yd_J22_trustedStripLeadingZeroInts hS (fun q h => Nat.le_trans hS.1 h) ⟨Nat.le_of_ble_eq_true rfl, Nat.le_of_ble_eq_true rfl⟩ ⟨by first | omega | (dsimp only; omega), by first | omega | (dsimp only; omega)⟩ (Nat.le_of_ble_eq_true rfl) dJ22_multiply_2_155 (fun rt H_2 locs hp hex hS => ?_)
        have sz_H_2 : H_1.size ≤ H_2.size := hex.1
        have hgx := hex.x
        clear hex
        have hO1 := hO1.x hgx
        have hM1 := hM1.x hgx
        have hO2 := hO2.x hgx
        have hM2 := hM2.x hgx
        have hml3 := hml3.x hgx
        obtain ⟨i, hi1, hi2, hi3, hst, hrt⟩ := hp
        have lt_rt := hst.lt
        refine lv_astore hx hb dJ22_multiply_2_158 hl (by decide) rfl (fun ls hl => ?_)
        have hl : lv_has ls 9 [(8, .ref rt), (7, .int 1), (6, .int (nI n2)), (5, .int (nI n1)), (0, .ref a), (1, .ref x), (2, .int 0), (3, .int 0), (4, .int 0)] := hl
        have hsz := hS.1
        have lt_a := hO1.lt
        have lt_m1 := hM1.lt
        have lt_x := hO2.lt
        have lt_m2 := hM2.lt
        have lt_rm := hml3.lt
        have lt_rt := hst.lt
        refine gw_new (C := RJ22) (T := TJ22) (N := 6) (fs := [.int 0, .null, .int 0, .int 0, .int 0, .int 0]) hx hb hts in_J22 tyJ22 tyJ22_ok hown hal (hts _ q818) (hts _ q819) (hts _ q83) hS (by decide +kernel) (by first | omega | (dsimp only; omega)) (by first | omega | (dsimp only; omega)) dJ22_multiply_2_160 (fun qo H_3 eqo zqo hgx h_qo hS => ?_)
        have hO1 := hO1.x hgx
        have hM1 := hM1.x hgx
        have hO2 := hO2.x hgx
        have hM2 := hM2.x hgx
        have hml3 := hml3.x hgx
        have hst := hst.x hgx
        refine lv_dup hx hb dJ22_multiply_2_163 rfl ?_
        refine lv_aload hx hb dJ22_multiply_2_164 (lv_at hl 0 rfl) ?_
        refine lv_iload hx hb dJ22_multiply_2_166 (lv_at hl 1 rfl) ?_
        have hlt9 : 0 < n1 + n2 - i := by
          refine Decidable.byContradiction fun q => ?_
          have hss := strip_val hi1 hi2
          rw [hml4, hv1, hv2, show n1 + n2 - i = 0 by omega] at hss
          have := Nat.mul_pos hV1 hV2
          exact absurd hss (by show ¬ 0 = _; omega)
        have hsz := hS.1
        refine gcI2_v hCF hwm hl.1 (m_bigInit l z H_3 qo rt 1 (n1 + n2 - i) (fun j => em (i + j)) true hlt9 (by omega) h_qo hst ) q820 q821 q83 q822 rfl yd_J22_init hS (fun q h => by have hsz := hS.1; (try dsimp only [gfr] at h ⊢) <;> omega) ⟨Nat.le_of_ble_eq_true rfl, Nat.le_of_ble_eq_true rfl⟩ ⟨by first | omega | (dsimp only; omega), by first | omega | (dsimp only; omega)⟩ (Nat.le_of_ble_eq_true rfl) dJ22_multiply_2_168 (fun H_4 locs hp hex hS => ?_)
        have sz_H_4 : H_3.size ≤ H_4.size := hex.1
        have hO1 := hO1.ex hex (by intro h; (try dsimp only [gfr] at h) <;> omega)
        have hM1 := hM1.ex hex (by intro h; (try dsimp only [gfr] at h) <;> omega)
        have hO2 := hO2.ex hex (by intro h; (try dsimp only [gfr] at h) <;> omega)
        have hM2 := hM2.ex hex (by intro h; (try dsimp only [gfr] at h) <;> omega)
        have hml3 := hml3.ex hex (by intro h; (try dsimp only [gfr] at h) <;> omega)
        have hst := hst.ex hex (by intro h; (try dsimp only [gfr] at h) <;> omega)
        have hB := hp
        refine g_aret hx hb hr hlocks (Or.inl ⟨_, rfl⟩) hS (by first | omega | (dsimp only; omega)) (by first | omega | (dsimp only; omega)) ?_ dJ22_multiply_2_171
        have hss := strip_val hi1 hi2
        rw [hml4, hv1, hv2] at hss
        have hVp : 0 < V1 * V2 := Nat.mul_pos hV1 hV2
        have hlt : i < n1 + n2 := by
          refine Decidable.byContradiction fun q => ?_
          rw [show n1 + n2 - i = 0 by omega] at hss
          exact absurd hss (by show ¬ 0 = _; omega)
        have hB2 := bI_mk hB hst (fun j => hml2 (i + j)) hss hVp (hi3 hlt) (by omega)
        exact ⟨rt, _, _, by omega, by omega, hB2⟩
      · skip
        have c_116 := (ai_eq (a := n1) (b := 1) (rfl) (rfl) (by omega) (by omega)).mp c_116
        subst c_116
        have hv1x := hv1
        refine lv_aload_n hx hb dJ22_multiply_2_119 rfl (lv_at hl 4 rfl) ?_
        refine gw_get (C := RJ22) (T := TJ22) (N := 6) (v := .ref m2) hx hb hts in_J22 hown hal hO2 1 (by decide) (hts _ q837) (fun _ h9 => h9) rfl dJ22_multiply_2_120 ?_
        refine lv_aload_n hx hb dJ22_multiply_2_123 rfl (lv_at hl 3 rfl) ?_
        refine gw_get (C := RJ22) (T := TJ22) (N := 6) (v := .ref m1) hx hb hts in_J22 hown hal hO1 1 (by decide) (hts _ q837) (fun _ h9 => h9) rfl dJ22_multiply_2_124 ?_
        refine lv_iconst (v := 0) hx hb dJ22_multiply_2_127 (by decide) ?_
        refine gw_iald hx hb hal hM1 0 (rfl) (by omega) (by omega) dJ22_multiply_2_128 ?_
        refine g_topi (v := (nI (d1 0))) rfl ?_
        rw [val_1] at hv1x
        refine lv_iload hx hb dJ22_multiply_2_129 (lv_at hl 0 rfl) ?_
        have hsz := hS.1
        refine gcS3_r hCF hwm hl.1 (m_mulInt l z H0 m2 (d1 0) n2 w2 d2 (by omega) (hd1 0) hnp2 (by omega) h02 hd2 hM2 hzw ) (lw_S q1314 q1315 q83 q1316) yd_J22_multiplyByInt hS (fun q h => Nat.le_trans hS.1 h) ⟨Nat.le_of_ble_eq_true rfl, Nat.le_of_ble_eq_true rfl⟩ ⟨by first | omega | (dsimp only; omega), by first | omega | (dsimp only; omega)⟩ (Nat.le_of_ble_eq_true rfl) dJ22_multiply_2_131 (fun rs H_6 locs hp hex hS => ?_)
        have sz_H_6 : H0.size ≤ H_6.size := hex.1
        have hgx := hex.x
        clear hex
        have hO1 := hO1.x hgx
        have hM1 := hM1.x hgx
        have hO2 := hO2.x hgx
        have hM2 := hM2.x hgx
        have hN := hp
        rw [← val_1 (d := d1)] at hv1x
        refine g_aret hx hb hr hlocks (Or.inl ⟨_, rfl⟩) hS (by first | omega | (dsimp only; omega)) (by first | omega | (dsimp only; omega)) ?_ dJ22_multiply_2_134
        rw [hv2, ← val_1 (d := d1), hv1x, Nat.mul_comm] at hN
        exact hN
    · skip
      have c_91 := (ai_eq (a := n2) (b := 1) (rfl) (rfl) (by omega) (by omega)).mp c_91
      subst c_91
      have hv2x := hv2
      refine lv_aload_n hx hb dJ22_multiply_2_94 rfl (lv_at hl 3 rfl) ?_
      refine gw_get (C := RJ22) (T := TJ22) (N := 6) (v := .ref m1) hx hb hts in_J22 hown hal hO1 1 (by decide) (hts _ q837) (fun _ h9 => h9) rfl dJ22_multiply_2_95 ?_
      refine lv_aload_n hx hb dJ22_multiply_2_98 rfl (lv_at hl 4 rfl) ?_
      refine gw_get (C := RJ22) (T := TJ22) (N := 6) (v := .ref m2) hx hb hts in_J22 hown hal hO2 1 (by decide) (hts _ q837) (fun _ h9 => h9) rfl dJ22_multiply_2_99 ?_
      refine lv_iconst (v := 0) hx hb dJ22_multiply_2_102 (by decide) ?_
      refine gw_iald hx hb hal hM2 0 (rfl) (by omega) (by omega) dJ22_multiply_2_103 ?_
      refine g_topi (v := (nI (d2 0))) rfl ?_
      rw [val_1] at hv2x
      refine lv_iload hx hb dJ22_multiply_2_104 (lv_at hl 0 rfl) ?_
      have hsz := hS.1
      refine gcS3_r hCF hwm hl.1 (m_mulInt l z H0 m1 (d2 0) n1 w1 d1 (by omega) (hd2 0) hnp1 (by omega) h01 hd1 hM1 hzw ) (lw_S q1314 q1315 q83 q1316) yd_J22_multiplyByInt hS (fun q h => Nat.le_trans hS.1 h) ⟨Nat.le_of_ble_eq_true rfl, Nat.le_of_ble_eq_true rfl⟩ ⟨by first | omega | (dsimp only; omega), by first | omega | (dsimp only; omega)⟩ (Nat.le_of_ble_eq_true rfl) dJ22_multiply_2_106 (fun rs H_7 locs hp hex hS => ?_)
      have sz_H_7 : H0.size ≤ H_7.size := hex.1
      have hgx := hex.x
      clear hex
      have hO1 := hO1.x hgx
      have hM1 := hM1.x hgx
      have hO2 := hO2.x hgx
      have hM2 := hM2.x hgx
      have hN := hp
      rw [← val_1 (d := d2)] at hv2x
      refine g_aret hx hb hr hlocks (Or.inl ⟨_, rfl⟩) hS (by first | omega | (dsimp only; omega)) (by first | omega | (dsimp only; omega)) ?_ dJ22_multiply_2_109
      rw [hv1, ← val_1 (d := d2), hv2x] at hN
      exact hN
  · skip
    have c_27 : x = a := Option.some.inj c_27
    refine lv_iload hx hb dJ22_multiply_2_30 (lv_at hl 0 rfl) ?_
    refine lv_bipush (v := 20) hx hb dJ22_multiply_2_32 (by decide) ?_
    refine lv_icmp_le (tgt := 46) hx hb dJ22_multiply_2_34 (by decide) (fun c_34 => ?_) (fun c_34 => False.elim (by
      have c_34 := mt (ai_le (a := n1) (b := 20) (rfl) (rfl) (by omega) (by omega)).mpr c_34
      omega))
    have c_34 := (ai_le (a := n1) (b := 20) (rfl) (rfl) (by omega) (by omega)).mp c_34
    refine lv_aload_n hx hb dJ22_multiply_2_46 rfl (lv_at hl 2 rfl) ?_
    refine gw_get (C := RJ22) (T := TJ22) (N := 6) (v := .ref m2) hx hb hts in_J22 hown hal hO2 1 (by decide) (hts _ q837) (fun _ h9 => h9) rfl dJ22_multiply_2_47 ?_
    refine gw_len hx hb hal hM2 dJ22_multiply_2_50 ?_
    refine lv_istore hx hb dJ22_multiply_2_51 hl (by decide) rfl (fun ls hl => ?_)
    have hl : lv_has ls 9 [(6, .int (nI n2)), (5, .int (nI n1)), (0, .ref a), (1, .ref x), (2, .int 0), (3, .int 0), (4, .int 0)] := hl
    refine lv_iload hx hb dJ22_multiply_2_53 (lv_at hl 1 rfl) ?_
    refine lv_bipush (v := 80) hx hb dJ22_multiply_2_55 (by decide) ?_
    refine lv_icmp_lt (tgt := 67) hx hb dJ22_multiply_2_57 (by decide) (fun c_57 => ?_) (fun c_57 => False.elim (by
      have c_57 := mt (ai_lt (a := n1) (b := 80) (rfl) (rfl) (by omega) (by omega)).mpr c_57
      omega))
    have c_57 := (ai_lt (a := n1) (b := 80) (rfl) (rfl) (by omega) (by omega)).mp c_57
    refine lv_aload_n hx hb dJ22_multiply_2_67 rfl (lv_at hl 2 rfl) ?_
    refine gw_get (C := RJ22) (T := TJ22) (N := 6) (v := .int 1) hx hb hts in_J22 hown hal hO1 0 (by decide) (hts _ q835) (fun _ h9 => h9) rfl dJ22_multiply_2_68 ?_
    refine lv_aload_n hx hb dJ22_multiply_2_71 rfl (lv_at hl 3 rfl) ?_
    refine gw_get (C := RJ22) (T := TJ22) (N := 6) (v := .int 1) hx hb hts in_J22 hown hal hO2 0 (by decide) (hts _ q835) (fun _ h9 => h9) rfl dJ22_multiply_2_72 ?_
    refine lv_icmp_ne (tgt := 82) hx hb dJ22_multiply_2_75 (by decide) (fun c_75 => absurd (rfl) c_75) (fun c_75 => ?_)
    refine lv_iconst (v := 1) hx hb dJ22_multiply_2_78 (by decide) ?_
    refine lv_goto (tgt := 83) hx hb dJ22_multiply_2_79 (by decide) ?_
    refine lv_istore hx hb dJ22_multiply_2_83 hl (by decide) rfl (fun ls hl => ?_)
    have hl : lv_has ls 9 [(7, .int 1), (6, .int (nI n2)), (5, .int (nI n1)), (0, .ref a), (1, .ref x), (2, .int 0), (3, .int 0), (4, .int 0)] := hl
    refine lv_aload_n hx hb dJ22_multiply_2_85 rfl (lv_at hl 4 rfl) ?_
    refine gw_get (C := RJ22) (T := TJ22) (N := 6) (v := .ref m2) hx hb hts in_J22 hown hal hO2 1 (by decide) (hts _ q837) (fun _ h9 => h9) rfl dJ22_multiply_2_86 ?_
    refine gw_len hx hb hal hM2 dJ22_multiply_2_89 ?_
    refine lv_iconst (v := 1) hx hb dJ22_multiply_2_90 (by decide) ?_
    refine lv_icmp_ne (tgt := 110) hx hb dJ22_multiply_2_91 (by decide) (fun c_91 => ?_) (fun c_91 => ?_)
    · skip
      have c_91 := mt (ai_eq (a := n2) (b := 1) (rfl) (rfl) (by omega) (by omega)).mpr c_91
      refine lv_aload_n hx hb dJ22_multiply_2_110 rfl (lv_at hl 3 rfl) ?_
      refine gw_get (C := RJ22) (T := TJ22) (N := 6) (v := .ref m1) hx hb hts in_J22 hown hal hO1 1 (by decide) (hts _ q837) (fun _ h9 => h9) rfl dJ22_multiply_2_111 ?_
      refine gw_len hx hb hal hM1 dJ22_multiply_2_114 ?_
      refine lv_iconst (v := 1) hx hb dJ22_multiply_2_115 (by decide) ?_
      refine lv_icmp_ne (tgt := 135) hx hb dJ22_multiply_2_116 (by decide) (fun c_116 => ?_) (fun c_116 => ?_)
      · skip
        have c_116 := mt (ai_eq (a := n1) (b := 1) (rfl) (rfl) (by omega) (by omega)).mpr c_116
        refine lv_aload_n hx hb dJ22_multiply_2_135 rfl (lv_at hl 3 rfl) ?_
        refine gw_get (C := RJ22) (T := TJ22) (N := 6) (v := .ref m1) hx hb hts in_J22 hown hal hO1 1 (by decide) (hts _ q837) (fun _ h9 => h9) rfl dJ22_multiply_2_136 ?_
        refine lv_iload hx hb dJ22_multiply_2_139 (lv_at hl 2 rfl) ?_
        refine lv_aload_n hx hb dJ22_multiply_2_141 rfl (lv_at hl 4 rfl) ?_
        refine gw_get (C := RJ22) (T := TJ22) (N := 6) (v := .ref m2) hx hb hts in_J22 hown hal hO2 1 (by decide) (hts _ q837) (fun _ h9 => h9) rfl dJ22_multiply_2_142 ?_
        refine lv_iload hx hb dJ22_multiply_2_145 (lv_at hl 1 rfl) ?_
        refine lv_null hx hb dJ22_multiply_2_147 ?_
        have hsz := hS.1
        refine gcS5_r hCF hwm hl.1 (m_mulLen l z H0 m1 m2 n1 n2 w1 w2 d1 d2 hnp1 hnp2 (by omega) (by omega) hd1 hd2 hM1 hM2 ) (lw_S q1318 q1319 q83 q1320) yd_J22_multiplyToLen hS (fun q h => Nat.le_trans hS.1 h) ⟨Nat.le_of_ble_eq_true rfl, Nat.le_of_ble_eq_true rfl⟩ ⟨by first | omega | (dsimp only; omega), by first | omega | (dsimp only; omega)⟩ (Nat.le_of_ble_eq_true rfl) dJ22_multiply_2_148 (fun rm H_8 locs hp hex hS => ?_)
        have sz_H_8 : H0.size ≤ H_8.size := hex.1
        have hgx := hex.x
        clear hex
        have hO1 := hO1.x hgx
        have hM1 := hM1.x hgx
        have hO2 := hO2.x hgx
        have hM2 := hM2.x hgx
        obtain ⟨hml1, em, hml2, hml3, hml4⟩ := hp
        have lt_rm := hml3.lt
        refine lv_astore hx hb dJ22_multiply_2_151 hl (by decide) rfl (fun ls hl => ?_)
        have hl : lv_has ls 9 [(8, .ref rm), (7, .int 1), (6, .int (nI n2)), (5, .int (nI n1)), (0, .ref a), (1, .ref x), (2, .int 0), (3, .int 0), (4, .int 0)] := hl
        refine lv_aload hx hb dJ22_multiply_2_153 (lv_at hl 0 rfl) ?_
        have hsz := hS.1
        refine gcS1_r hCF hwm hl.1 (m_strip l z H_8 rm (n1 + n2) em (by omega) hml2 hml3 hzw ) (lw_S q1252 q1253 q83 q1254) yd_J22_trustedStripLeadingZeroInts hS (fun q h => Nat.le_trans hS.1 h) ⟨Nat.le_of_ble_eq_true rfl, Nat.le_of_ble_eq_true rfl⟩ ⟨by first | omega | (dsimp only; omega), by first | omega | (dsimp only; omega)⟩ (Nat.le_of_ble_eq_true rfl) dJ22_multiply_2_155 (fun rt H_9 locs hp hex hS => ?_)
        have sz_H_9 : H_8.size ≤ H_9.size := hex.1
        have hgx := hex.x
        clear hex
        have hO1 := hO1.x hgx
        have hM1 := hM1.x hgx
        have hO2 := hO2.x hgx
        have hM2 := hM2.x hgx
        have hml3 := hml3.x hgx
        obtain ⟨i, hi1, hi2, hi3, hst, hrt⟩ := hp
        have lt_rt := hst.lt
        refine lv_astore hx hb dJ22_multiply_2_158 hl (by decide) rfl (fun ls hl => ?_)
        have hl : lv_has ls 9 [(8, .ref rt), (7, .int 1), (6, .int (nI n2)), (5, .int (nI n1)), (0, .ref a), (1, .ref x), (2, .int 0), (3, .int 0), (4, .int 0)] := hl
        have hsz := hS.1
        have lt_a := hO1.lt
        have lt_m1 := hM1.lt
        have lt_x := hO2.lt
        have lt_m2 := hM2.lt
        have lt_rm := hml3.lt
        have lt_rt := hst.lt
        refine gw_new (C := RJ22) (T := TJ22) (N := 6) (fs := [.int 0, .null, .int 0, .int 0, .int 0, .int 0]) hx hb hts in_J22 tyJ22 tyJ22_ok hown hal (hts _ q818) (hts _ q819) (hts _ q83) hS (by decide +kernel) (by first | omega | (dsimp only; omega)) (by first | omega | (dsimp only; omega)) dJ22_multiply_2_160 (fun qo H_10 eqo zqo hgx h_qo hS => ?_)
        have hO1 := hO1.x hgx
        have hM1 := hM1.x hgx
        have hO2 := hO2.x hgx
        have hM2 := hM2.x hgx
        have hml3 := hml3.x hgx
        have hst := hst.x hgx
        refine lv_dup hx hb dJ22_multiply_2_163 rfl ?_
        refine lv_aload hx hb dJ22_multiply_2_164 (lv_at hl 0 rfl) ?_
        refine lv_iload hx hb dJ22_multiply_2_166 (lv_at hl 1 rfl) ?_
        have hlt9 : 0 < n1 + n2 - i := by
          refine Decidable.byContradiction fun q => ?_
          have hss := strip_val hi1 hi2
          rw [hml4, hv1, hv2, show n1 + n2 - i = 0 by omega] at hss
          have := Nat.mul_pos hV1 hV2
          exact absurd hss (by show ¬ 0 = _; omega)
        have hsz := hS.1
        refine gcI2_v hCF hwm hl.1 (m_bigInit l z H_10 qo rt 1 (n1 + n2 - i) (fun j => em (i + j)) true hlt9 (by omega) h_qo hst ) q820 q821 q83 q822 rfl yd_J22_init hS (fun q h => by have hsz := hS.1; (try dsimp only [gfr] at h ⊢) <;> omega) ⟨Nat.le_of_ble_eq_true rfl, Nat.le_of_ble_eq_true rfl⟩ ⟨by first | omega | (dsimp only; omega), by first | omega | (dsimp only; omega)⟩ (Nat.le_of_ble_eq_true rfl) dJ22_multiply_2_168 (fun H_11 locs hp hex hS => ?_)
        have sz_H_11 : H_10.size ≤ H_11.size := hex.1
        have hO1 := hO1.ex hex (by intro h; (try dsimp only [gfr] at h) <;> omega)
        have hM1 := hM1.ex hex (by intro h; (try dsimp only [gfr] at h) <;> omega)
        have hO2 := hO2.ex hex (by intro h; (try dsimp only [gfr] at h) <;> omega)
        have hM2 := hM2.ex hex (by intro h; (try dsimp only [gfr] at h) <;> omega)
        have hml3 := hml3.ex hex (by intro h; (try dsimp only [gfr] at h) <;> omega)
        have hst := hst.ex hex (by intro h; (try dsimp only [gfr] at h) <;> omega)
        have hB := hp
        refine g_aret hx hb hr hlocks (Or.inl ⟨_, rfl⟩) hS (by first | omega | (dsimp only; omega)) (by first | omega | (dsimp only; omega)) ?_ dJ22_multiply_2_171
        have hss := strip_val hi1 hi2
        rw [hml4, hv1, hv2] at hss
        have hVp : 0 < V1 * V2 := Nat.mul_pos hV1 hV2
        have hlt : i < n1 + n2 := by
          refine Decidable.byContradiction fun q => ?_
          rw [show n1 + n2 - i = 0 by omega] at hss
          exact absurd hss (by show ¬ 0 = _; omega)
        have hB2 := bI_mk hB hst (fun j => hml2 (i + j)) hss hVp (hi3 hlt) (by omega)
        exact ⟨rt, _, _, by omega, by omega, hB2⟩
      · skip
        have c_116 := (ai_eq (a := n1) (b := 1) (rfl) (rfl) (by omega) (by omega)).mp c_116
        subst c_116
        have hv1x := hv1
        refine lv_aload_n hx hb dJ22_multiply_2_119 rfl (lv_at hl 4 rfl) ?_
        refine gw_get (C := RJ22) (T := TJ22) (N := 6) (v := .ref m2) hx hb hts in_J22 hown hal hO2 1 (by decide) (hts _ q837) (fun _ h9 => h9) rfl dJ22_multiply_2_120 ?_
        refine lv_aload_n hx hb dJ22_multiply_2_123 rfl (lv_at hl 3 rfl) ?_
        refine gw_get (C := RJ22) (T := TJ22) (N := 6) (v := .ref m1) hx hb hts in_J22 hown hal hO1 1 (by decide) (hts _ q837) (fun _ h9 => h9) rfl dJ22_multiply_2_124 ?_
        refine lv_iconst (v := 0) hx hb dJ22_multiply_2_127 (by decide) ?_
        refine gw_iald hx hb hal hM1 0 (rfl) (by omega) (by omega) dJ22_multiply_2_128 ?_
        refine g_topi (v := (nI (d1 0))) rfl ?_
        rw [val_1] at hv1x
        refine lv_iload hx hb dJ22_multiply_2_129 (lv_at hl 0 rfl) ?_
        have hsz := hS.1
        refine gcS3_r hCF hwm hl.1 (m_mulInt l z H0 m2 (d1 0) n2 w2 d2 (by omega) (hd1 0) hnp2 (by omega) h02 hd2 hM2 hzw ) (lw_S q1314 q1315 q83 q1316) yd_J22_multiplyByInt hS (fun q h => Nat.le_trans hS.1 h) ⟨Nat.le_of_ble_eq_true rfl, Nat.le_of_ble_eq_true rfl⟩ ⟨by first | omega | (dsimp only; omega), by first | omega | (dsimp only; omega)⟩ (Nat.le_of_ble_eq_true rfl) dJ22_multiply_2_131 (fun rs H_13 locs hp hex hS => ?_)
        have sz_H_13 : H0.size ≤ H_13.size := hex.1
        have hgx := hex.x
        clear hex
        have hO1 := hO1.x hgx
        have hM1 := hM1.x hgx
        have hO2 := hO2.x hgx
        have hM2 := hM2.x hgx
        have hN := hp
        rw [← val_1 (d := d1)] at hv1x
        refine g_aret hx hb hr hlocks (Or.inl ⟨_, rfl⟩) hS (by first | omega | (dsimp only; omega)) (by first | omega | (dsimp only; omega)) ?_ dJ22_multiply_2_134
        rw [hv2, ← val_1 (d := d1), hv1x, Nat.mul_comm] at hN
        exact hN
    · skip
      have c_91 := (ai_eq (a := n2) (b := 1) (rfl) (rfl) (by omega) (by omega)).mp c_91
      subst c_91
      have hv2x := hv2
      refine lv_aload_n hx hb dJ22_multiply_2_94 rfl (lv_at hl 3 rfl) ?_
      refine gw_get (C := RJ22) (T := TJ22) (N := 6) (v := .ref m1) hx hb hts in_J22 hown hal hO1 1 (by decide) (hts _ q837) (fun _ h9 => h9) rfl dJ22_multiply_2_95 ?_
      refine lv_aload_n hx hb dJ22_multiply_2_98 rfl (lv_at hl 4 rfl) ?_
      refine gw_get (C := RJ22) (T := TJ22) (N := 6) (v := .ref m2) hx hb hts in_J22 hown hal hO2 1 (by decide) (hts _ q837) (fun _ h9 => h9) rfl dJ22_multiply_2_99 ?_
      refine lv_iconst (v := 0) hx hb dJ22_multiply_2_102 (by decide) ?_
      refine gw_iald hx hb hal hM2 0 (rfl) (by omega) (by omega) dJ22_multiply_2_103 ?_
      refine g_topi (v := (nI (d2 0))) rfl ?_
      rw [val_1] at hv2x
      refine lv_iload hx hb dJ22_multiply_2_104 (lv_at hl 0 rfl) ?_
      have hsz := hS.1
      refine gcS3_r hCF hwm hl.1 (m_mulInt l z H0 m1 (d2 0) n1 w1 d1 (by omega) (hd2 0) hnp1 (by omega) h01 hd1 hM1 hzw ) (lw_S q1314 q1315 q83 q1316) yd_J22_multiplyByInt hS (fun q h => Nat.le_trans hS.1 h) ⟨Nat.le_of_ble_eq_true rfl, Nat.le_of_ble_eq_true rfl⟩ ⟨by first | omega | (dsimp only; omega), by first | omega | (dsimp only; omega)⟩ (Nat.le_of_ble_eq_true rfl) dJ22_multiply_2_106 (fun rs H_14 locs hp hex hS => ?_)
      have sz_H_14 : H0.size ≤ H_14.size := hex.1
      have hgx := hex.x
      clear hex
      have hO1 := hO1.x hgx
      have hM1 := hM1.x hgx
      have hO2 := hO2.x hgx
      have hM2 := hM2.x hgx
      have hN := hp
      rw [← val_1 (d := d2)] at hv2x
      refine g_aret hx hb hr hlocks (Or.inl ⟨_, rfl⟩) hS (by first | omega | (dsimp only; omega)) (by first | omega | (dsimp only; omega)) ?_ dJ22_multiply_2_109
      rw [hv1, ← val_1 (d := d2), hv2x] at hN
      exact hN
set_option maxHeartbeats 1000000 in
theorem m_mul (l : Launch) (z : State) (H0 : Heap) (a : Nat) (x : Nat) (V1 V2 : Nat) (w1 w2 : Bool) (m1 n1 m2 n2 : Nat) (d1 d2 : Nat → Nat) (hV1 : 0 < V1) (hV2 : 0 < V2) (hn91 : n1 ≤ 20) (hn92 : n2 ≤ 20) (hb1 : bI z w1 H0 a m1 n1 d1 V1) (hb2 : bI z w2 H0 x m2 n2 d2 V2) (hzw : zW z) : Met l yJ22_multiply (ws_ yJ22_multiply cJ22_multiply 2 (some (.object "java/math/BigInteger"))) { frames := 5, cells := 3, slots := (2 * (n1 + n2) + 7), locals := 146 } (gPc z H0 [.ref a, .ref x]) (gRr (gfr H0) H0 (fun r H1 => ∃ mr nr dr, H0.size ≤ r ∧ H0.size ≤ mr ∧ bI z true H1 r mr nr dr ((V1 * V2 : Nat) : Int))) 3 (2 * (n1 + n2) + 7) (gfr H0) := by
  refine g_start (by decide +kernel) (Nat.le_of_ble_eq_true rfl) ?_
  intro p e s m below meth c ls hx hb hr hlocks hml hown hname hts hwm hl
  have hown : s.vm.findClass "java/math/BigInteger" = some m.cls := hown
  have hal : z.vm.Alike s.vm := hwm.alike
  have hCF : CallFix p m c cJ22_multiply 2 s [.ref a, .ref x].toArray lw_all "java/math/BigInteger" := ⟨hx, hb, hml, hown, hts⟩
  have hl : lv_has ls 2 [(0, .ref a), (1, .ref x)] := hl
  have hS : va_S (gfr H0) H0 H0 [] := va_S.rf
  have hb1x := hb1
  have hb2x := hb2
  obtain ⟨c11, c21, c31, c41, hO1, hM1, hd1, hv1, h01, hn1, hca1⟩ := hb1
  rw [sg_pos (show (0 : Int) < (V1 : Int) by omega)] at hO1
  have hv1 : val d1 n1 = V1 := by rw [hv1]; omega
  have hnp1 := n_pos hv1 hV1
  have h01 := h01 hnp1
  obtain ⟨c12, c22, c32, c42, hO2, hM2, hd2, hv2, h02, hn2, hca2⟩ := hb2
  rw [sg_pos (show (0 : Int) < (V2 : Int) by omega)] at hO2
  have hv2 : val d2 n2 = V2 := by rw [hv2]; omega
  have hnp2 := n_pos hv2 hV2
  have h02 := h02 hnp2
  have lt_a := hO1.lt
  have lt_m1 := hM1.lt
  have lt_x := hO2.lt
  have lt_m2 := hM2.lt
  refine lv_aload_n hx hb dJ22_multiply_0 rfl (lv_at hl 0 rfl) ?_
  refine lv_aload_n hx hb dJ22_multiply_1 rfl (lv_at hl 1 rfl) ?_
  refine lv_iconst (v := 0) hx hb dJ22_multiply_2 (by decide) ?_
  refine lv_iconst (v := 0) hx hb dJ22_multiply_3 (by decide) ?_
  refine lv_iconst (v := 0) hx hb dJ22_multiply_4 (by decide) ?_
  have hsz := hS.1
  refine gcV4_r hCF hwm hl.1 (m_mul4 l z H0 a x V1 V2 w1 w2 m1 n1 m2 n2 d1 d2 hV1 hV2 hn91 hn92 hb1x hb2x hzw ) (lw_V q1202 q1204 qs18 q83 q1205) ydv_J22_multiply_2 (hO1.recv hal) hS (fun q h => Nat.le_trans hS.1 h) ⟨Nat.le_of_ble_eq_true rfl, Nat.le_of_ble_eq_true rfl⟩ ⟨by first | omega | (dsimp only; omega), by first | omega | (dsimp only; omega)⟩ (Nat.le_of_ble_eq_true rfl) dJ22_multiply_5 (fun rs H_1 locs hp hex hS => ?_)
  have sz_H_1 : H0.size ≤ H_1.size := hex.1
  have hgx := hex.x
  clear hex
  have hO1 := hO1.x hgx
  have hM1 := hM1.x hgx
  have hO2 := hO2.x hgx
  have hM2 := hM2.x hgx
  have hN := hp
  refine g_aret hx hb hr hlocks (Or.inl ⟨_, rfl⟩) hS (by first | omega | (dsimp only; omega)) (by first | omega | (dsimp only; omega)) ?_ dJ22_multiply_8
  exact hN
set_option maxHeartbeats 1000000 in
theorem m_bigShl (l : Launch) (z : State) (H0 : Heap) (a : Nat) (V n0 : Nat) (w1 : Bool) (m1 n1 : Nat) (d1 : Nat → Nat) (hV1 : 0 < V) (hn91 : n1 ≤ 20) (hn99 : n0 < 10000) (hb1 : bI z w1 H0 a m1 n1 d1 V) : Met l yJ22_shiftLeft (ws_ yJ22_shiftLeft cJ22_shiftLeft 2 (some (.object "java/math/BigInteger"))) { frames := 3, cells := 2, slots := (n1 + n0 / 32 + 7), locals := 74 } (gPc z H0 [.ref a, .int (nI n0)]) (gRr (gfr H0) H0 (fun r H1 => ∃ wr mr nr dr, bI z wr H1 r mr nr dr ((V * 2 ^ n0 : Nat) : Int) ∧ ((r = a ∧ mr = m1 ∧ wr = w1) ∨ (H0.size ≤ r ∧ H0.size ≤ mr ∧ wr = true)))) 2 (n1 + n0 / 32 + 7) (gfr H0) := by
  refine g_start (by decide +kernel) (Nat.le_of_ble_eq_true rfl) ?_
  intro p e s m below meth c ls hx hb hr hlocks hml hown hname hts hwm hl
  have hown : s.vm.findClass "java/math/BigInteger" = some m.cls := hown
  have hal : z.vm.Alike s.vm := hwm.alike
  have hCF : CallFix p m c cJ22_shiftLeft 2 s [.ref a, .int (nI n0)].toArray lw_all "java/math/BigInteger" := ⟨hx, hb, hml, hown, hts⟩
  have hl : lv_has ls 2 [(0, .ref a), (1, .int (nI n0))] := hl
  have hS : va_S (gfr H0) H0 H0 [] := va_S.rf
  have hb1x := hb1
  obtain ⟨c11, c21, c31, c41, hO1, hM1, hd1, hv1, h01, hn1, hca1⟩ := hb1
  rw [sg_pos (show (0 : Int) < (V : Int) by omega)] at hO1
  have hv1 : val d1 n1 = V := by rw [hv1]; omega
  have hnp1 := n_pos hv1 hV1
  have h01 := h01 hnp1
  have lt_a := hO1.lt
  have lt_m1 := hM1.lt
  refine lv_aload_n hx hb dJ22_shiftLeft_0 rfl (lv_at hl 0 rfl) ?_
  refine gw_get (C := RJ22) (T := TJ22) (N := 6) (v := .int 1) hx hb hts in_J22 hown hal hO1 0 (by decide) (hts _ q835) (fun _ h9 => h9) rfl dJ22_shiftLeft_1 ?_
  refine lv_if_ne (tgt := 11) hx hb dJ22_shiftLeft_4 (by decide) (fun c_4 => ?_) (fun c_4 => absurd c_4 (by decide))
  refine lv_iload_n hx hb dJ22_shiftLeft_11 rfl (lv_at hl 1 rfl) ?_
  refine lv_if_le (tgt := 35) hx hb dJ22_shiftLeft_12 (by decide) (fun c_12 => ?_) (fun c_12 => ?_)
  · skip
    have c_12 := (ai_le (a := n0) (b := 0) (rfl) (rfl) (by omega) (by omega)).mp c_12
    refine lv_iload_n hx hb dJ22_shiftLeft_35 rfl (lv_at hl 1 rfl) ?_
    refine lv_if_ne (tgt := 41) hx hb dJ22_shiftLeft_36 (by decide) (fun c_36 => False.elim (by
      have c_36 := mt (ai_eq (a := n0) (b := 0) (rfl) (rfl) (by omega) (by omega)).mpr c_36
      omega)) (fun c_36 => ?_)
    have c_36 := (ai_eq (a := n0) (b := 0) (rfl) (rfl) (by omega) (by omega)).mp c_36
    refine lv_aload_n hx hb dJ22_shiftLeft_39 rfl (lv_at hl 0 rfl) ?_
    refine g_aret hx hb hr hlocks (Or.inl ⟨_, rfl⟩) hS (by first | omega | (dsimp only; omega)) (by first | omega | (dsimp only; omega)) ?_ dJ22_shiftLeft_40
    have e0 : n0 = 0 := by omega
    subst e0
    rw [Nat.pow_zero, Nat.mul_one]
    exact ⟨w1, m1, n1, d1, hb1x, Or.inl ⟨rfl, rfl, rfl⟩⟩
  · skip
    have c_12 := mt (ai_le (a := n0) (b := 0) (rfl) (rfl) (by omega) (by omega)).mpr c_12
    have hsz := hS.1
    have lt_a := hO1.lt
    have lt_m1 := hM1.lt
    refine gw_new (C := RJ22) (T := TJ22) (N := 6) (fs := [.int 0, .null, .int 0, .int 0, .int 0, .int 0]) hx hb hts in_J22 tyJ22 tyJ22_ok hown hal (hts _ q818) (hts _ q819) (hts _ q83) hS (by decide +kernel) (by first | omega | (dsimp only; omega)) (by first | omega | (dsimp only; omega)) dJ22_shiftLeft_15 (fun qo H_1 eqo zqo hgx h_qo hS => ?_)
    have hO1 := hO1.x hgx
    have hM1 := hM1.x hgx
    refine lv_dup hx hb dJ22_shiftLeft_18 rfl ?_
    refine lv_aload_n hx hb dJ22_shiftLeft_19 rfl (lv_at hl 0 rfl) ?_
    refine gw_get (C := RJ22) (T := TJ22) (N := 6) (v := .ref m1) hx hb hts in_J22 hown hal hO1 1 (by decide) (hts _ q837) (fun _ h9 => h9) rfl dJ22_shiftLeft_20 ?_
    refine lv_iload_n hx hb dJ22_shiftLeft_23 rfl (lv_at hl 1 rfl) ?_
    have hsz := hS.1
    refine gcS2_r hCF hwm hl.1 (m_shlA l z H_1 m1 n0 n1 w1 d1 hnp1 (by omega) (by omega) h01 hd1 hM1 ) (lw_S q1277 q1278 q83 q1279) yd_J22_shiftLeft_2 hS (fun q h => Nat.le_trans hS.1 h) ⟨Nat.le_of_ble_eq_true rfl, Nat.le_of_ble_eq_true rfl⟩ ⟨by first | omega | (dsimp only; omega), by first | omega | (dsimp only; omega)⟩ (Nat.le_of_ble_eq_true rfl) dJ22_shiftLeft_24 (fun rs H_2 locs hp hex hS => ?_)
    have sz_H_2 : H_1.size ≤ H_2.size := hex.1
    have hgx := hex.x
    clear hex
    have hO1 := hO1.x hgx
    have hM1 := hM1.x hgx
    have h_qo := h_qo.x hgx
    obtain ⟨hsh1, es, ln, hsh2, hsh3, hsh4, hsh5, hsh6, hsh7⟩ := hp
    have lt_rs := hsh3.lt
    refine lv_aload_n hx hb dJ22_shiftLeft_27 rfl (lv_at hl 0 rfl) ?_
    refine gw_get (C := RJ22) (T := TJ22) (N := 6) (v := .int 1) hx hb hts in_J22 hown hal hO1 0 (by decide) (hts _ q835) (fun _ h9 => h9) rfl dJ22_shiftLeft_28 ?_
    have hsz := hS.1
    refine gcI2_v hCF hwm hl.1 (m_bigInit l z H_2 qo rs 1 ln es true hsh6 (by omega) h_qo hsh3 ) q820 q821 q83 q822 rfl yd_J22_init hS (fun q h => by have hsz := hS.1; (try dsimp only [gfr] at h ⊢) <;> omega) ⟨Nat.le_of_ble_eq_true rfl, Nat.le_of_ble_eq_true rfl⟩ ⟨by first | omega | (dsimp only; omega), by first | omega | (dsimp only; omega)⟩ (Nat.le_of_ble_eq_true rfl) dJ22_shiftLeft_31 (fun H_3 locs hp hex hS => ?_)
    have sz_H_3 : H_2.size ≤ H_3.size := hex.1
    have hO1 := hO1.ex hex (by intro h; (try dsimp only [gfr] at h) <;> omega)
    have hM1 := hM1.ex hex (by intro h; (try dsimp only [gfr] at h) <;> omega)
    have hsh3 := hsh3.ex hex (by intro h; (try dsimp only [gfr] at h) <;> omega)
    have hB := hp
    refine g_aret hx hb hr hlocks (Or.inl ⟨_, rfl⟩) hS (by first | omega | (dsimp only; omega)) (by first | omega | (dsimp only; omega)) ?_ dJ22_shiftLeft_34
    have hB2 := bI_mk hB hsh3 hsh2 (V := V * 2 ^ n0) (by rw [hsh4, hv1]) (Nat.mul_pos hV1 (Nat.two_pow_pos _)) hsh5 (by omega)
    exact ⟨true, rs, _, _, hB2, Or.inr ⟨by omega, by omega, rfl⟩⟩
