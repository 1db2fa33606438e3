/-! ## walks (written by tools) -/
set_option maxRecDepth 100000
def dkwJ22_pow_18 : List UInt8 := [182, 1, 138, 176, 25, 10, 176]
abbrev dktJ22_pow_18 : List UInt8 := dkwJ22_pow_18 ++ []
def dkwJ22_pow_17 : List UInt8 := [21, 6, 182, 1, 209, 58, 10, 42, 180, 0, 32, 156, 0, 16, 27, 4, 126, 4, 160, 0, 9, 25, 10]
abbrev dktJ22_pow_17 : List UInt8 := dkwJ22_pow_17 ++ dktJ22_pow_18
def dkwJ22_pow_16 : List UInt8 := [21, 11, 4, 124, 89, 54, 11, 153, 255, 228, 44, 182, 1, 63, 77, 167, 255, 220, 29, 158, 0, 12, 25, 10]
abbrev dktJ22_pow_16 : List UInt8 := dkwJ22_pow_16 ++ dktJ22_pow_17
def dkwJ22_pow_15 : List UInt8 := [54, 11, 21, 11, 153, 0, 37, 21, 11, 4, 126, 4, 160, 0, 11, 25, 10, 44, 182, 1, 60, 58, 10]
abbrev dktJ22_pow_15 : List UInt8 := dkwJ22_pow_15 ++ dktJ22_pow_16
def dkwJ22_pow_14 : List UInt8 := [27, 133, 105, 20, 2, 72, 109, 20, 2, 74, 148, 158, 0, 6, 184, 0, 101, 178, 1, 2, 58, 10, 27]
abbrev dktJ22_pow_14 : List UInt8 := dkwJ22_pow_14 ++ dktJ22_pow_15
def dkwJ22_pow_13 : List UInt8 := [184, 0, 235, 21, 6, 182, 1, 209, 176, 22, 11, 21, 10, 133, 105, 184, 0, 235, 176, 42, 182, 0, 232, 133]
abbrev dktJ22_pow_13 : List UInt8 := dkwJ22_pow_13 ++ dktJ22_pow_14
def dkwJ22_pow_12 : List UInt8 := [157, 0, 16, 22, 11, 21, 6, 121, 21, 10, 133, 105, 184, 0, 235, 176, 22, 11, 21, 10, 133, 105]
abbrev dktJ22_pow_12 : List UInt8 := dkwJ22_pow_12 ++ dktJ22_pow_13
def dkwJ22_pow_11 : List UInt8 := [22, 13, 105, 55, 13, 167, 255, 219, 29, 158, 0, 44, 21, 6, 133, 22, 8, 97, 20, 2, 70, 148]
abbrev dktJ22_pow_11 : List UInt8 := dkwJ22_pow_11 ++ dktJ22_pow_12
def dkwJ22_pow_10 : List UInt8 := [4, 160, 0, 10, 22, 11, 22, 13, 105, 55, 11, 21, 15, 4, 124, 89, 54, 15, 153, 255, 229, 22, 13]
abbrev dktJ22_pow_10 : List UInt8 := dkwJ22_pow_10 ++ dktJ22_pow_11
def dkwJ22_pow_9 : List UInt8 := [180, 0, 28, 3, 46, 133, 20, 0, 130, 127, 55, 13, 27, 54, 15, 21, 15, 153, 0, 38, 21, 15, 4, 126]
abbrev dktJ22_pow_9 : List UInt8 := dkwJ22_pow_9 ++ dktJ22_pow_10
def dkwJ22_pow_8 : List UInt8 := [180, 0, 32, 156, 0, 14, 27, 4, 126, 4, 160, 0, 7, 2, 167, 0, 4, 4, 54, 10, 10, 55, 11, 44]
abbrev dktJ22_pow_8 : List UInt8 := dkwJ22_pow_8 ++ dktJ22_pow_9
def dkwJ22_pow_7 : List UInt8 := [27, 133, 105, 55, 8, 44, 180, 0, 28, 190, 4, 160, 0, 147, 22, 8, 20, 2, 70, 148, 157, 0, 138, 42]
abbrev dktJ22_pow_7 : List UInt8 := dkwJ22_pow_7 ++ dktJ22_pow_8
def dkwJ22_pow_6 : List UInt8 := [180, 0, 32, 156, 0, 14, 27, 4, 126, 4, 160, 0, 7, 178, 2, 67, 176, 178, 1, 2, 176, 21, 7, 133]
abbrev dktJ22_pow_6 : List UInt8 := dkwJ22_pow_6 ++ dktJ22_pow_7
def dkwJ22_pow_5 : List UInt8 := [178, 1, 2, 21, 6, 182, 1, 209, 176, 44, 182, 0, 232, 54, 7, 21, 7, 4, 160, 0, 25, 42]
abbrev dktJ22_pow_5 : List UInt8 := dkwJ22_pow_5 ++ dktJ22_pow_6
def dkwJ22_pow_4 : List UInt8 := [180, 0, 32, 156, 0, 19, 27, 4, 126, 4, 160, 0, 12, 178, 2, 67, 21, 6, 182, 1, 209, 176]
abbrev dktJ22_pow_4 : List UInt8 := dkwJ22_pow_4 ++ dktJ22_pow_5
def dkwJ22_pow_3 : List UInt8 := [158, 0, 53, 44, 29, 182, 1, 67, 77, 44, 182, 0, 232, 54, 7, 21, 7, 4, 160, 0, 69, 42]
abbrev dktJ22_pow_3 : List UInt8 := dkwJ22_pow_3 ++ dktJ22_pow_4
def dkwJ22_pow_2 : List UInt8 := [133, 105, 55, 4, 22, 4, 20, 2, 65, 148, 158, 0, 6, 184, 0, 101, 22, 4, 136, 54, 6, 29]
abbrev dktJ22_pow_2 : List UInt8 := dkwJ22_pow_2 ++ dktJ22_pow_3
def dkwJ22_pow_1 : List UInt8 := [154, 0, 9, 178, 1, 2, 167, 0, 4, 42, 176, 42, 182, 1, 229, 77, 44, 182, 1, 70, 62, 29, 133, 27]
abbrev dktJ22_pow_1 : List UInt8 := dkwJ22_pow_1 ++ dktJ22_pow_2
def dkwJ22_pow_0 : List UInt8 := [27, 156, 0, 14, 187, 0, 160, 89, 19, 2, 63, 183, 0, 164, 191, 42, 180, 0, 32, 154, 0, 15, 27]
abbrev dktJ22_pow_0 : List UInt8 := dkwJ22_pow_0 ++ dktJ22_pow_1
theorem dksJ22_pow_0 : cJ22_pow.data.toList.drop 0 = dktJ22_pow_0 := by decide +kernel
theorem dksJ22_pow_1 : cJ22_pow.data.toList.drop 23 = dktJ22_pow_1 := dk_seg dksJ22_pow_0 23 rfl rfl
theorem dksJ22_pow_2 : cJ22_pow.data.toList.drop 47 = dktJ22_pow_2 := dk_seg dksJ22_pow_1 24 rfl rfl
theorem dksJ22_pow_3 : cJ22_pow.data.toList.drop 69 = dktJ22_pow_3 := dk_seg dksJ22_pow_2 22 rfl rfl
theorem dksJ22_pow_4 : cJ22_pow.data.toList.drop 91 = dktJ22_pow_4 := dk_seg dksJ22_pow_3 22 rfl rfl
theorem dksJ22_pow_5 : cJ22_pow.data.toList.drop 113 = dktJ22_pow_5 := dk_seg dksJ22_pow_4 22 rfl rfl
theorem dksJ22_pow_6 : cJ22_pow.data.toList.drop 135 = dktJ22_pow_6 := dk_seg dksJ22_pow_5 22 rfl rfl
theorem dksJ22_pow_7 : cJ22_pow.data.toList.drop 159 = dktJ22_pow_7 := dk_seg dksJ22_pow_6 24 rfl rfl
theorem dksJ22_pow_8 : cJ22_pow.data.toList.drop 183 = dktJ22_pow_8 := dk_seg dksJ22_pow_7 24 rfl rfl
theorem dksJ22_pow_9 : cJ22_pow.data.toList.drop 207 = dktJ22_pow_9 := dk_seg dksJ22_pow_8 24 rfl rfl
theorem dksJ22_pow_10 : cJ22_pow.data.toList.drop 231 = dktJ22_pow_10 := dk_seg dksJ22_pow_9 24 rfl rfl
theorem dksJ22_pow_11 : cJ22_pow.data.toList.drop 254 = dktJ22_pow_11 := dk_seg dksJ22_pow_10 23 rfl rfl
theorem dksJ22_pow_12 : cJ22_pow.data.toList.drop 276 = dktJ22_pow_12 := dk_seg dksJ22_pow_11 22 rfl rfl
theorem dksJ22_pow_13 : cJ22_pow.data.toList.drop 298 = dktJ22_pow_13 := dk_seg dksJ22_pow_12 22 rfl rfl
theorem dksJ22_pow_14 : cJ22_pow.data.toList.drop 322 = dktJ22_pow_14 := dk_seg dksJ22_pow_13 24 rfl rfl
theorem dksJ22_pow_15 : cJ22_pow.data.toList.drop 345 = dktJ22_pow_15 := dk_seg dksJ22_pow_14 23 rfl rfl
theorem dksJ22_pow_16 : cJ22_pow.data.toList.drop 368 = dktJ22_pow_16 := dk_seg dksJ22_pow_15 23 rfl rfl
theorem dksJ22_pow_17 : cJ22_pow.data.toList.drop 392 = dktJ22_pow_17 := dk_seg dksJ22_pow_16 24 rfl rfl
theorem dksJ22_pow_18 : cJ22_pow.data.toList.drop 415 = dktJ22_pow_18 := dk_seg dksJ22_pow_17 23 rfl rfl
theorem dJ22_pow_0 : decode cJ22_pow 0 = .ok (.iload_n 1, 1) := dk_27 (dk_at dksJ22_pow_0 0 rfl rfl)
theorem dJ22_pow_1 : decode cJ22_pow 1 = .ok (.ifCond .ge 14, 3) := dk_156 0 14 (dk_at dksJ22_pow_0 1 rfl rfl)
theorem dJ22_pow_4 : decode cJ22_pow 4 = .ok (.new 160, 3) := dk_187 0 160 (dk_at dksJ22_pow_0 4 rfl rfl)
theorem dJ22_pow_7 : decode cJ22_pow 7 = .ok (.dup, 1) := dk_89 (dk_at dksJ22_pow_0 7 rfl rfl)
theorem dJ22_pow_8 : decode cJ22_pow 8 = .ok (.ldc_w 575, 3) := dk_19 2 63 (dk_at dksJ22_pow_0 8 rfl rfl)
theorem dJ22_pow_11 : decode cJ22_pow 11 = .ok (.invokespecial 164, 3) := dk_183 0 164 (dk_at dksJ22_pow_0 11 rfl rfl)
theorem dJ22_pow_14 : decode cJ22_pow 14 = .ok (.athrow, 1) := dk_191 (dk_at dksJ22_pow_0 14 rfl rfl)
theorem dJ22_pow_15 : decode cJ22_pow 15 = .ok (.aload_n 0, 1) := dk_42 (dk_at dksJ22_pow_0 15 rfl rfl)
theorem dJ22_pow_16 : decode cJ22_pow 16 = .ok (.getfield 32, 3) := dk_180 0 32 (dk_at dksJ22_pow_0 16 rfl rfl)
theorem dJ22_pow_19 : decode cJ22_pow 19 = .ok (.ifCond .ne 15, 3) := dk_154 0 15 (dk_at dksJ22_pow_0 19 rfl rfl)
theorem dJ22_pow_22 : decode cJ22_pow 22 = .ok (.iload_n 1, 1) := dk_27 (dk_at dksJ22_pow_0 22 rfl rfl)
theorem dJ22_pow_23 : decode cJ22_pow 23 = .ok (.ifCond .ne 9, 3) := dk_154 0 9 (dk_at dksJ22_pow_1 0 rfl rfl)
theorem dJ22_pow_26 : decode cJ22_pow 26 = .ok (.getstatic 258, 3) := dk_178 1 2 (dk_at dksJ22_pow_1 3 rfl rfl)
theorem dJ22_pow_29 : decode cJ22_pow 29 = .ok (.goto 4, 3) := dk_167 0 4 (dk_at dksJ22_pow_1 6 rfl rfl)
theorem dJ22_pow_32 : decode cJ22_pow 32 = .ok (.aload_n 0, 1) := dk_42 (dk_at dksJ22_pow_1 9 rfl rfl)
theorem dJ22_pow_33 : decode cJ22_pow 33 = .ok (.areturn, 1) := dk_176 (dk_at dksJ22_pow_1 10 rfl rfl)
theorem dJ22_pow_34 : decode cJ22_pow 34 = .ok (.aload_n 0, 1) := dk_42 (dk_at dksJ22_pow_1 11 rfl rfl)
theorem dJ22_pow_35 : decode cJ22_pow 35 = .ok (.invokevirtual 485, 3) := dk_182 1 229 (dk_at dksJ22_pow_1 12 rfl rfl)
theorem dJ22_pow_38 : decode cJ22_pow 38 = .ok (.astore_n 2, 1) := dk_77 (dk_at dksJ22_pow_1 15 rfl rfl)
theorem dJ22_pow_39 : decode cJ22_pow 39 = .ok (.aload_n 2, 1) := dk_44 (dk_at dksJ22_pow_1 16 rfl rfl)
theorem dJ22_pow_40 : decode cJ22_pow 40 = .ok (.invokevirtual 326, 3) := dk_182 1 70 (dk_at dksJ22_pow_1 17 rfl rfl)
theorem dJ22_pow_43 : decode cJ22_pow 43 = .ok (.istore_n 3, 1) := dk_62 (dk_at dksJ22_pow_1 20 rfl rfl)
theorem dJ22_pow_44 : decode cJ22_pow 44 = .ok (.iload_n 3, 1) := dk_29 (dk_at dksJ22_pow_1 21 rfl rfl)
theorem dJ22_pow_45 : decode cJ22_pow 45 = .ok (.i2l, 1) := dk_133 (dk_at dksJ22_pow_1 22 rfl rfl)
theorem dJ22_pow_46 : decode cJ22_pow 46 = .ok (.iload_n 1, 1) := dk_27 (dk_at dksJ22_pow_1 23 rfl rfl)
theorem dJ22_pow_47 : decode cJ22_pow 47 = .ok (.i2l, 1) := dk_133 (dk_at dksJ22_pow_2 0 rfl rfl)
theorem dJ22_pow_48 : decode cJ22_pow 48 = .ok (.lmul, 1) := dk_105 (dk_at dksJ22_pow_2 1 rfl rfl)
theorem dJ22_pow_49 : decode cJ22_pow 49 = .ok (.lstore 4, 2) := dk_55 4 (dk_at dksJ22_pow_2 2 rfl rfl)
theorem dJ22_pow_51 : decode cJ22_pow 51 = .ok (.lload 4, 2) := dk_22 4 (dk_at dksJ22_pow_2 4 rfl rfl)
theorem dJ22_pow_53 : decode cJ22_pow 53 = .ok (.ldc2_w 577, 3) := dk_20 2 65 (dk_at dksJ22_pow_2 6 rfl rfl)
theorem dJ22_pow_56 : decode cJ22_pow 56 = .ok (.lcmp, 1) := dk_148 (dk_at dksJ22_pow_2 9 rfl rfl)
theorem dJ22_pow_57 : decode cJ22_pow 57 = .ok (.ifCond .le 6, 3) := dk_158 0 6 (dk_at dksJ22_pow_2 10 rfl rfl)
theorem dJ22_pow_60 : decode cJ22_pow 60 = .ok (.invokestatic 101, 3) := dk_184 0 101 (dk_at dksJ22_pow_2 13 rfl rfl)
theorem dJ22_pow_63 : decode cJ22_pow 63 = .ok (.lload 4, 2) := dk_22 4 (dk_at dksJ22_pow_2 16 rfl rfl)
theorem dJ22_pow_65 : decode cJ22_pow 65 = .ok (.l2i, 1) := dk_136 (dk_at dksJ22_pow_2 18 rfl rfl)
theorem dJ22_pow_66 : decode cJ22_pow 66 = .ok (.istore 6, 2) := dk_54 6 (dk_at dksJ22_pow_2 19 rfl rfl)
theorem dJ22_pow_68 : decode cJ22_pow 68 = .ok (.iload_n 3, 1) := dk_29 (dk_at dksJ22_pow_2 21 rfl rfl)
theorem dJ22_pow_69 : decode cJ22_pow 69 = .ok (.ifCond .le 53, 3) := dk_158 0 53 (dk_at dksJ22_pow_3 0 rfl rfl)
theorem dJ22_pow_72 : decode cJ22_pow 72 = .ok (.aload_n 2, 1) := dk_44 (dk_at dksJ22_pow_3 3 rfl rfl)
theorem dJ22_pow_73 : decode cJ22_pow 73 = .ok (.iload_n 3, 1) := dk_29 (dk_at dksJ22_pow_3 4 rfl rfl)
theorem dJ22_pow_74 : decode cJ22_pow 74 = .ok (.invokevirtual 323, 3) := dk_182 1 67 (dk_at dksJ22_pow_3 5 rfl rfl)
theorem dJ22_pow_77 : decode cJ22_pow 77 = .ok (.astore_n 2, 1) := dk_77 (dk_at dksJ22_pow_3 8 rfl rfl)
theorem dJ22_pow_78 : decode cJ22_pow 78 = .ok (.aload_n 2, 1) := dk_44 (dk_at dksJ22_pow_3 9 rfl rfl)
theorem dJ22_pow_79 : decode cJ22_pow 79 = .ok (.invokevirtual 232, 3) := dk_182 0 232 (dk_at dksJ22_pow_3 10 rfl rfl)
theorem dJ22_pow_82 : decode cJ22_pow 82 = .ok (.istore 7, 2) := dk_54 7 (dk_at dksJ22_pow_3 13 rfl rfl)
theorem dJ22_pow_84 : decode cJ22_pow 84 = .ok (.iload 7, 2) := dk_21 7 (dk_at dksJ22_pow_3 15 rfl rfl)
theorem dJ22_pow_86 : decode cJ22_pow 86 = .ok (.iconst 1, 1) := dk_4 (dk_at dksJ22_pow_3 17 rfl rfl)
theorem dJ22_pow_87 : decode cJ22_pow 87 = .ok (.if_icmp .ne 69, 3) := dk_160 0 69 (dk_at dksJ22_pow_3 18 rfl rfl)
theorem dJ22_pow_90 : decode cJ22_pow 90 = .ok (.aload_n 0, 1) := dk_42 (dk_at dksJ22_pow_3 21 rfl rfl)
theorem dJ22_pow_91 : decode cJ22_pow 91 = .ok (.getfield 32, 3) := dk_180 0 32 (dk_at dksJ22_pow_4 0 rfl rfl)
theorem dJ22_pow_94 : decode cJ22_pow 94 = .ok (.ifCond .ge 19, 3) := dk_156 0 19 (dk_at dksJ22_pow_4 3 rfl rfl)
theorem dJ22_pow_97 : decode cJ22_pow 97 = .ok (.iload_n 1, 1) := dk_27 (dk_at dksJ22_pow_4 6 rfl rfl)
theorem dJ22_pow_98 : decode cJ22_pow 98 = .ok (.iconst 1, 1) := dk_4 (dk_at dksJ22_pow_4 7 rfl rfl)
theorem dJ22_pow_99 : decode cJ22_pow 99 = .ok (.iand, 1) := dk_126 (dk_at dksJ22_pow_4 8 rfl rfl)
theorem dJ22_pow_100 : decode cJ22_pow 100 = .ok (.iconst 1, 1) := dk_4 (dk_at dksJ22_pow_4 9 rfl rfl)
theorem dJ22_pow_101 : decode cJ22_pow 101 = .ok (.if_icmp .ne 12, 3) := dk_160 0 12 (dk_at dksJ22_pow_4 10 rfl rfl)
theorem dJ22_pow_104 : decode cJ22_pow 104 = .ok (.getstatic 579, 3) := dk_178 2 67 (dk_at dksJ22_pow_4 13 rfl rfl)
theorem dJ22_pow_107 : decode cJ22_pow 107 = .ok (.iload 6, 2) := dk_21 6 (dk_at dksJ22_pow_4 16 rfl rfl)
theorem dJ22_pow_109 : decode cJ22_pow 109 = .ok (.invokevirtual 465, 3) := dk_182 1 209 (dk_at dksJ22_pow_4 18 rfl rfl)
theorem dJ22_pow_112 : decode cJ22_pow 112 = .ok (.areturn, 1) := dk_176 (dk_at dksJ22_pow_4 21 rfl rfl)
theorem dJ22_pow_113 : decode cJ22_pow 113 = .ok (.getstatic 258, 3) := dk_178 1 2 (dk_at dksJ22_pow_5 0 rfl rfl)
theorem dJ22_pow_116 : decode cJ22_pow 116 = .ok (.iload 6, 2) := dk_21 6 (dk_at dksJ22_pow_5 3 rfl rfl)
theorem dJ22_pow_118 : decode cJ22_pow 118 = .ok (.invokevirtual 465, 3) := dk_182 1 209 (dk_at dksJ22_pow_5 5 rfl rfl)
theorem dJ22_pow_121 : decode cJ22_pow 121 = .ok (.areturn, 1) := dk_176 (dk_at dksJ22_pow_5 8 rfl rfl)
theorem dJ22_pow_122 : decode cJ22_pow 122 = .ok (.aload_n 2, 1) := dk_44 (dk_at dksJ22_pow_5 9 rfl rfl)
theorem dJ22_pow_123 : decode cJ22_pow 123 = .ok (.invokevirtual 232, 3) := dk_182 0 232 (dk_at dksJ22_pow_5 10 rfl rfl)
theorem dJ22_pow_126 : decode cJ22_pow 126 = .ok (.istore 7, 2) := dk_54 7 (dk_at dksJ22_pow_5 13 rfl rfl)
theorem dJ22_pow_128 : decode cJ22_pow 128 = .ok (.iload 7, 2) := dk_21 7 (dk_at dksJ22_pow_5 15 rfl rfl)
theorem dJ22_pow_130 : decode cJ22_pow 130 = .ok (.iconst 1, 1) := dk_4 (dk_at dksJ22_pow_5 17 rfl rfl)
theorem dJ22_pow_131 : decode cJ22_pow 131 = .ok (.if_icmp .ne 25, 3) := dk_160 0 25 (dk_at dksJ22_pow_5 18 rfl rfl)
theorem dJ22_pow_134 : decode cJ22_pow 134 = .ok (.aload_n 0, 1) := dk_42 (dk_at dksJ22_pow_5 21 rfl rfl)
theorem dJ22_pow_135 : decode cJ22_pow 135 = .ok (.getfield 32, 3) := dk_180 0 32 (dk_at dksJ22_pow_6 0 rfl rfl)
theorem dJ22_pow_138 : decode cJ22_pow 138 = .ok (.ifCond .ge 14, 3) := dk_156 0 14 (dk_at dksJ22_pow_6 3 rfl rfl)
theorem dJ22_pow_141 : decode cJ22_pow 141 = .ok (.iload_n 1, 1) := dk_27 (dk_at dksJ22_pow_6 6 rfl rfl)
theorem dJ22_pow_142 : decode cJ22_pow 142 = .ok (.iconst 1, 1) := dk_4 (dk_at dksJ22_pow_6 7 rfl rfl)
theorem dJ22_pow_143 : decode cJ22_pow 143 = .ok (.iand, 1) := dk_126 (dk_at dksJ22_pow_6 8 rfl rfl)
theorem dJ22_pow_144 : decode cJ22_pow 144 = .ok (.iconst 1, 1) := dk_4 (dk_at dksJ22_pow_6 9 rfl rfl)
theorem dJ22_pow_145 : decode cJ22_pow 145 = .ok (.if_icmp .ne 7, 3) := dk_160 0 7 (dk_at dksJ22_pow_6 10 rfl rfl)
theorem dJ22_pow_148 : decode cJ22_pow 148 = .ok (.getstatic 579, 3) := dk_178 2 67 (dk_at dksJ22_pow_6 13 rfl rfl)
theorem dJ22_pow_151 : decode cJ22_pow 151 = .ok (.areturn, 1) := dk_176 (dk_at dksJ22_pow_6 16 rfl rfl)
theorem dJ22_pow_152 : decode cJ22_pow 152 = .ok (.getstatic 258, 3) := dk_178 1 2 (dk_at dksJ22_pow_6 17 rfl rfl)
theorem dJ22_pow_155 : decode cJ22_pow 155 = .ok (.areturn, 1) := dk_176 (dk_at dksJ22_pow_6 20 rfl rfl)
theorem dJ22_pow_156 : decode cJ22_pow 156 = .ok (.iload 7, 2) := dk_21 7 (dk_at dksJ22_pow_6 21 rfl rfl)
theorem dJ22_pow_158 : decode cJ22_pow 158 = .ok (.i2l, 1) := dk_133 (dk_at dksJ22_pow_6 23 rfl rfl)
theorem dJ22_pow_159 : decode cJ22_pow 159 = .ok (.iload_n 1, 1) := dk_27 (dk_at dksJ22_pow_7 0 rfl rfl)
theorem dJ22_pow_160 : decode cJ22_pow 160 = .ok (.i2l, 1) := dk_133 (dk_at dksJ22_pow_7 1 rfl rfl)
theorem dJ22_pow_161 : decode cJ22_pow 161 = .ok (.lmul, 1) := dk_105 (dk_at dksJ22_pow_7 2 rfl rfl)
theorem dJ22_pow_162 : decode cJ22_pow 162 = .ok (.lstore 8, 2) := dk_55 8 (dk_at dksJ22_pow_7 3 rfl rfl)
theorem dJ22_pow_164 : decode cJ22_pow 164 = .ok (.aload_n 2, 1) := dk_44 (dk_at dksJ22_pow_7 5 rfl rfl)
theorem dJ22_pow_165 : decode cJ22_pow 165 = .ok (.getfield 28, 3) := dk_180 0 28 (dk_at dksJ22_pow_7 6 rfl rfl)
theorem dJ22_pow_168 : decode cJ22_pow 168 = .ok (.arraylength, 1) := dk_190 (dk_at dksJ22_pow_7 9 rfl rfl)
theorem dJ22_pow_169 : decode cJ22_pow 169 = .ok (.iconst 1, 1) := dk_4 (dk_at dksJ22_pow_7 10 rfl rfl)
theorem dJ22_pow_170 : decode cJ22_pow 170 = .ok (.if_icmp .ne 147, 3) := dk_160 0 147 (dk_at dksJ22_pow_7 11 rfl rfl)
theorem dJ22_pow_173 : decode cJ22_pow 173 = .ok (.lload 8, 2) := dk_22 8 (dk_at dksJ22_pow_7 14 rfl rfl)
theorem dJ22_pow_175 : decode cJ22_pow 175 = .ok (.ldc2_w 582, 3) := dk_20 2 70 (dk_at dksJ22_pow_7 16 rfl rfl)
theorem dJ22_pow_178 : decode cJ22_pow 178 = .ok (.lcmp, 1) := dk_148 (dk_at dksJ22_pow_7 19 rfl rfl)
theorem dJ22_pow_179 : decode cJ22_pow 179 = .ok (.ifCond .gt 138, 3) := dk_157 0 138 (dk_at dksJ22_pow_7 20 rfl rfl)
theorem dJ22_pow_182 : decode cJ22_pow 182 = .ok (.aload_n 0, 1) := dk_42 (dk_at dksJ22_pow_7 23 rfl rfl)
theorem dJ22_pow_183 : decode cJ22_pow 183 = .ok (.getfield 32, 3) := dk_180 0 32 (dk_at dksJ22_pow_8 0 rfl rfl)
theorem dJ22_pow_186 : decode cJ22_pow 186 = .ok (.ifCond .ge 14, 3) := dk_156 0 14 (dk_at dksJ22_pow_8 3 rfl rfl)
theorem dJ22_pow_189 : decode cJ22_pow 189 = .ok (.iload_n 1, 1) := dk_27 (dk_at dksJ22_pow_8 6 rfl rfl)
theorem dJ22_pow_190 : decode cJ22_pow 190 = .ok (.iconst 1, 1) := dk_4 (dk_at dksJ22_pow_8 7 rfl rfl)
theorem dJ22_pow_191 : decode cJ22_pow 191 = .ok (.iand, 1) := dk_126 (dk_at dksJ22_pow_8 8 rfl rfl)
theorem dJ22_pow_192 : decode cJ22_pow 192 = .ok (.iconst 1, 1) := dk_4 (dk_at dksJ22_pow_8 9 rfl rfl)
theorem dJ22_pow_193 : decode cJ22_pow 193 = .ok (.if_icmp .ne 7, 3) := dk_160 0 7 (dk_at dksJ22_pow_8 10 rfl rfl)
theorem dJ22_pow_196 : decode cJ22_pow 196 = .ok (.iconst (-1), 1) := dk_2 (dk_at dksJ22_pow_8 13 rfl rfl)
theorem dJ22_pow_197 : decode cJ22_pow 197 = .ok (.goto 4, 3) := dk_167 0 4 (dk_at dksJ22_pow_8 14 rfl rfl)
theorem dJ22_pow_200 : decode cJ22_pow 200 = .ok (.iconst 1, 1) := dk_4 (dk_at dksJ22_pow_8 17 rfl rfl)
theorem dJ22_pow_201 : decode cJ22_pow 201 = .ok (.istore 10, 2) := dk_54 10 (dk_at dksJ22_pow_8 18 rfl rfl)
theorem dJ22_pow_203 : decode cJ22_pow 203 = .ok (.lconst 1, 1) := dk_10 (dk_at dksJ22_pow_8 20 rfl rfl)
theorem dJ22_pow_204 : decode cJ22_pow 204 = .ok (.lstore 11, 2) := dk_55 11 (dk_at dksJ22_pow_8 21 rfl rfl)
theorem dJ22_pow_206 : decode cJ22_pow 206 = .ok (.aload_n 2, 1) := dk_44 (dk_at dksJ22_pow_8 23 rfl rfl)
theorem dJ22_pow_207 : decode cJ22_pow 207 = .ok (.getfield 28, 3) := dk_180 0 28 (dk_at dksJ22_pow_9 0 rfl rfl)
theorem dJ22_pow_210 : decode cJ22_pow 210 = .ok (.iconst 0, 1) := dk_3 (dk_at dksJ22_pow_9 3 rfl rfl)
theorem dJ22_pow_211 : decode cJ22_pow 211 = .ok (.iaload, 1) := dk_46 (dk_at dksJ22_pow_9 4 rfl rfl)
theorem dJ22_pow_212 : decode cJ22_pow 212 = .ok (.i2l, 1) := dk_133 (dk_at dksJ22_pow_9 5 rfl rfl)
theorem dJ22_pow_213 : decode cJ22_pow 213 = .ok (.ldc2_w 130, 3) := dk_20 0 130 (dk_at dksJ22_pow_9 6 rfl rfl)
theorem dJ22_pow_216 : decode cJ22_pow 216 = .ok (.land, 1) := dk_127 (dk_at dksJ22_pow_9 9 rfl rfl)
theorem dJ22_pow_217 : decode cJ22_pow 217 = .ok (.lstore 13, 2) := dk_55 13 (dk_at dksJ22_pow_9 10 rfl rfl)
theorem dJ22_pow_219 : decode cJ22_pow 219 = .ok (.iload_n 1, 1) := dk_27 (dk_at dksJ22_pow_9 12 rfl rfl)
theorem dJ22_pow_220 : decode cJ22_pow 220 = .ok (.istore 15, 2) := dk_54 15 (dk_at dksJ22_pow_9 13 rfl rfl)
theorem dJ22_pow_222 : decode cJ22_pow 222 = .ok (.iload 15, 2) := dk_21 15 (dk_at dksJ22_pow_9 15 rfl rfl)
theorem dJ22_pow_224 : decode cJ22_pow 224 = .ok (.ifCond .eq 38, 3) := dk_153 0 38 (dk_at dksJ22_pow_9 17 rfl rfl)
theorem dJ22_pow_227 : decode cJ22_pow 227 = .ok (.iload 15, 2) := dk_21 15 (dk_at dksJ22_pow_9 20 rfl rfl)
theorem dJ22_pow_229 : decode cJ22_pow 229 = .ok (.iconst 1, 1) := dk_4 (dk_at dksJ22_pow_9 22 rfl rfl)
theorem dJ22_pow_230 : decode cJ22_pow 230 = .ok (.iand, 1) := dk_126 (dk_at dksJ22_pow_9 23 rfl rfl)
theorem dJ22_pow_231 : decode cJ22_pow 231 = .ok (.iconst 1, 1) := dk_4 (dk_at dksJ22_pow_10 0 rfl rfl)
theorem dJ22_pow_232 : decode cJ22_pow 232 = .ok (.if_icmp .ne 10, 3) := dk_160 0 10 (dk_at dksJ22_pow_10 1 rfl rfl)
theorem dJ22_pow_235 : decode cJ22_pow 235 = .ok (.lload 11, 2) := dk_22 11 (dk_at dksJ22_pow_10 4 rfl rfl)
theorem dJ22_pow_237 : decode cJ22_pow 237 = .ok (.lload 13, 2) := dk_22 13 (dk_at dksJ22_pow_10 6 rfl rfl)
theorem dJ22_pow_239 : decode cJ22_pow 239 = .ok (.lmul, 1) := dk_105 (dk_at dksJ22_pow_10 8 rfl rfl)
theorem dJ22_pow_240 : decode cJ22_pow 240 = .ok (.lstore 11, 2) := dk_55 11 (dk_at dksJ22_pow_10 9 rfl rfl)
theorem dJ22_pow_242 : decode cJ22_pow 242 = .ok (.iload 15, 2) := dk_21 15 (dk_at dksJ22_pow_10 11 rfl rfl)
theorem dJ22_pow_244 : decode cJ22_pow 244 = .ok (.iconst 1, 1) := dk_4 (dk_at dksJ22_pow_10 13 rfl rfl)
theorem dJ22_pow_245 : decode cJ22_pow 245 = .ok (.iushr, 1) := dk_124 (dk_at dksJ22_pow_10 14 rfl rfl)
theorem dJ22_pow_246 : decode cJ22_pow 246 = .ok (.dup, 1) := dk_89 (dk_at dksJ22_pow_10 15 rfl rfl)
theorem dJ22_pow_247 : decode cJ22_pow 247 = .ok (.istore 15, 2) := dk_54 15 (dk_at dksJ22_pow_10 16 rfl rfl)
theorem dJ22_pow_249 : decode cJ22_pow 249 = .ok (.ifCond .eq (-27), 3) := dk_153 255 229 (dk_at dksJ22_pow_10 18 rfl rfl)
theorem dJ22_pow_252 : decode cJ22_pow 252 = .ok (.lload 13, 2) := dk_22 13 (dk_at dksJ22_pow_10 21 rfl rfl)
theorem dJ22_pow_254 : decode cJ22_pow 254 = .ok (.lload 13, 2) := dk_22 13 (dk_at dksJ22_pow_11 0 rfl rfl)
theorem dJ22_pow_256 : decode cJ22_pow 256 = .ok (.lmul, 1) := dk_105 (dk_at dksJ22_pow_11 2 rfl rfl)
theorem dJ22_pow_257 : decode cJ22_pow 257 = .ok (.lstore 13, 2) := dk_55 13 (dk_at dksJ22_pow_11 3 rfl rfl)
theorem dJ22_pow_259 : decode cJ22_pow 259 = .ok (.goto (-37), 3) := dk_167 255 219 (dk_at dksJ22_pow_11 5 rfl rfl)
theorem dJ22_pow_262 : decode cJ22_pow 262 = .ok (.iload_n 3, 1) := dk_29 (dk_at dksJ22_pow_11 8 rfl rfl)
theorem dJ22_pow_263 : decode cJ22_pow 263 = .ok (.ifCond .le 44, 3) := dk_158 0 44 (dk_at dksJ22_pow_11 9 rfl rfl)
theorem dJ22_pow_266 : decode cJ22_pow 266 = .ok (.iload 6, 2) := dk_21 6 (dk_at dksJ22_pow_11 12 rfl rfl)
theorem dJ22_pow_268 : decode cJ22_pow 268 = .ok (.i2l, 1) := dk_133 (dk_at dksJ22_pow_11 14 rfl rfl)
theorem dJ22_pow_269 : decode cJ22_pow 269 = .ok (.lload 8, 2) := dk_22 8 (dk_at dksJ22_pow_11 15 rfl rfl)
theorem dJ22_pow_271 : decode cJ22_pow 271 = .ok (.ladd, 1) := dk_97 (dk_at dksJ22_pow_11 17 rfl rfl)
theorem dJ22_pow_272 : decode cJ22_pow 272 = .ok (.ldc2_w 582, 3) := dk_20 2 70 (dk_at dksJ22_pow_11 18 rfl rfl)
theorem dJ22_pow_275 : decode cJ22_pow 275 = .ok (.lcmp, 1) := dk_148 (dk_at dksJ22_pow_11 21 rfl rfl)
theorem dJ22_pow_276 : decode cJ22_pow 276 = .ok (.ifCond .gt 16, 3) := dk_157 0 16 (dk_at dksJ22_pow_12 0 rfl rfl)
theorem dJ22_pow_279 : decode cJ22_pow 279 = .ok (.lload 11, 2) := dk_22 11 (dk_at dksJ22_pow_12 3 rfl rfl)
theorem dJ22_pow_281 : decode cJ22_pow 281 = .ok (.iload 6, 2) := dk_21 6 (dk_at dksJ22_pow_12 5 rfl rfl)
theorem dJ22_pow_283 : decode cJ22_pow 283 = .ok (.lshl, 1) := dk_121 (dk_at dksJ22_pow_12 7 rfl rfl)
theorem dJ22_pow_284 : decode cJ22_pow 284 = .ok (.iload 10, 2) := dk_21 10 (dk_at dksJ22_pow_12 8 rfl rfl)
theorem dJ22_pow_286 : decode cJ22_pow 286 = .ok (.i2l, 1) := dk_133 (dk_at dksJ22_pow_12 10 rfl rfl)
theorem dJ22_pow_287 : decode cJ22_pow 287 = .ok (.lmul, 1) := dk_105 (dk_at dksJ22_pow_12 11 rfl rfl)
theorem dJ22_pow_288 : decode cJ22_pow 288 = .ok (.invokestatic 235, 3) := dk_184 0 235 (dk_at dksJ22_pow_12 12 rfl rfl)
theorem dJ22_pow_291 : decode cJ22_pow 291 = .ok (.areturn, 1) := dk_176 (dk_at dksJ22_pow_12 15 rfl rfl)
theorem dJ22_pow_292 : decode cJ22_pow 292 = .ok (.lload 11, 2) := dk_22 11 (dk_at dksJ22_pow_12 16 rfl rfl)
theorem dJ22_pow_294 : decode cJ22_pow 294 = .ok (.iload 10, 2) := dk_21 10 (dk_at dksJ22_pow_12 18 rfl rfl)
theorem dJ22_pow_296 : decode cJ22_pow 296 = .ok (.i2l, 1) := dk_133 (dk_at dksJ22_pow_12 20 rfl rfl)
theorem dJ22_pow_297 : decode cJ22_pow 297 = .ok (.lmul, 1) := dk_105 (dk_at dksJ22_pow_12 21 rfl rfl)
theorem dJ22_pow_298 : decode cJ22_pow 298 = .ok (.invokestatic 235, 3) := dk_184 0 235 (dk_at dksJ22_pow_13 0 rfl rfl)
theorem dJ22_pow_301 : decode cJ22_pow 301 = .ok (.iload 6, 2) := dk_21 6 (dk_at dksJ22_pow_13 3 rfl rfl)
theorem dJ22_pow_303 : decode cJ22_pow 303 = .ok (.invokevirtual 465, 3) := dk_182 1 209 (dk_at dksJ22_pow_13 5 rfl rfl)
theorem dJ22_pow_306 : decode cJ22_pow 306 = .ok (.areturn, 1) := dk_176 (dk_at dksJ22_pow_13 8 rfl rfl)
theorem dJ22_pow_307 : decode cJ22_pow 307 = .ok (.lload 11, 2) := dk_22 11 (dk_at dksJ22_pow_13 9 rfl rfl)
theorem dJ22_pow_309 : decode cJ22_pow 309 = .ok (.iload 10, 2) := dk_21 10 (dk_at dksJ22_pow_13 11 rfl rfl)
theorem dJ22_pow_311 : decode cJ22_pow 311 = .ok (.i2l, 1) := dk_133 (dk_at dksJ22_pow_13 13 rfl rfl)
theorem dJ22_pow_312 : decode cJ22_pow 312 = .ok (.lmul, 1) := dk_105 (dk_at dksJ22_pow_13 14 rfl rfl)
theorem dJ22_pow_313 : decode cJ22_pow 313 = .ok (.invokestatic 235, 3) := dk_184 0 235 (dk_at dksJ22_pow_13 15 rfl rfl)
theorem dJ22_pow_316 : decode cJ22_pow 316 = .ok (.areturn, 1) := dk_176 (dk_at dksJ22_pow_13 18 rfl rfl)
theorem dJ22_pow_317 : decode cJ22_pow 317 = .ok (.aload_n 0, 1) := dk_42 (dk_at dksJ22_pow_13 19 rfl rfl)
theorem dJ22_pow_318 : decode cJ22_pow 318 = .ok (.invokevirtual 232, 3) := dk_182 0 232 (dk_at dksJ22_pow_13 20 rfl rfl)
theorem dJ22_pow_321 : decode cJ22_pow 321 = .ok (.i2l, 1) := dk_133 (dk_at dksJ22_pow_13 23 rfl rfl)
theorem dJ22_pow_322 : decode cJ22_pow 322 = .ok (.iload_n 1, 1) := dk_27 (dk_at dksJ22_pow_14 0 rfl rfl)
theorem dJ22_pow_323 : decode cJ22_pow 323 = .ok (.i2l, 1) := dk_133 (dk_at dksJ22_pow_14 1 rfl rfl)
theorem dJ22_pow_324 : decode cJ22_pow 324 = .ok (.lmul, 1) := dk_105 (dk_at dksJ22_pow_14 2 rfl rfl)
theorem dJ22_pow_325 : decode cJ22_pow 325 = .ok (.ldc2_w 584, 3) := dk_20 2 72 (dk_at dksJ22_pow_14 3 rfl rfl)
theorem dJ22_pow_328 : decode cJ22_pow 328 = .ok (.ldiv, 1) := dk_109 (dk_at dksJ22_pow_14 6 rfl rfl)
theorem dJ22_pow_329 : decode cJ22_pow 329 = .ok (.ldc2_w 586, 3) := dk_20 2 74 (dk_at dksJ22_pow_14 7 rfl rfl)
theorem dJ22_pow_332 : decode cJ22_pow 332 = .ok (.lcmp, 1) := dk_148 (dk_at dksJ22_pow_14 10 rfl rfl)
theorem dJ22_pow_333 : decode cJ22_pow 333 = .ok (.ifCond .le 6, 3) := dk_158 0 6 (dk_at dksJ22_pow_14 11 rfl rfl)
theorem dJ22_pow_336 : decode cJ22_pow 336 = .ok (.invokestatic 101, 3) := dk_184 0 101 (dk_at dksJ22_pow_14 14 rfl rfl)
theorem dJ22_pow_339 : decode cJ22_pow 339 = .ok (.getstatic 258, 3) := dk_178 1 2 (dk_at dksJ22_pow_14 17 rfl rfl)
theorem dJ22_pow_342 : decode cJ22_pow 342 = .ok (.astore 10, 2) := dk_58 10 (dk_at dksJ22_pow_14 20 rfl rfl)
theorem dJ22_pow_344 : decode cJ22_pow 344 = .ok (.iload_n 1, 1) := dk_27 (dk_at dksJ22_pow_14 22 rfl rfl)
theorem dJ22_pow_345 : decode cJ22_pow 345 = .ok (.istore 11, 2) := dk_54 11 (dk_at dksJ22_pow_15 0 rfl rfl)
theorem dJ22_pow_347 : decode cJ22_pow 347 = .ok (.iload 11, 2) := dk_21 11 (dk_at dksJ22_pow_15 2 rfl rfl)
theorem dJ22_pow_349 : decode cJ22_pow 349 = .ok (.ifCond .eq 37, 3) := dk_153 0 37 (dk_at dksJ22_pow_15 4 rfl rfl)
theorem dJ22_pow_352 : decode cJ22_pow 352 = .ok (.iload 11, 2) := dk_21 11 (dk_at dksJ22_pow_15 7 rfl rfl)
theorem dJ22_pow_354 : decode cJ22_pow 354 = .ok (.iconst 1, 1) := dk_4 (dk_at dksJ22_pow_15 9 rfl rfl)
theorem dJ22_pow_355 : decode cJ22_pow 355 = .ok (.iand, 1) := dk_126 (dk_at dksJ22_pow_15 10 rfl rfl)
theorem dJ22_pow_356 : decode cJ22_pow 356 = .ok (.iconst 1, 1) := dk_4 (dk_at dksJ22_pow_15 11 rfl rfl)
theorem dJ22_pow_357 : decode cJ22_pow 357 = .ok (.if_icmp .ne 11, 3) := dk_160 0 11 (dk_at dksJ22_pow_15 12 rfl rfl)
theorem dJ22_pow_360 : decode cJ22_pow 360 = .ok (.aload 10, 2) := dk_25 10 (dk_at dksJ22_pow_15 15 rfl rfl)
theorem dJ22_pow_362 : decode cJ22_pow 362 = .ok (.aload_n 2, 1) := dk_44 (dk_at dksJ22_pow_15 17 rfl rfl)
theorem dJ22_pow_363 : decode cJ22_pow 363 = .ok (.invokevirtual 316, 3) := dk_182 1 60 (dk_at dksJ22_pow_15 18 rfl rfl)
theorem dJ22_pow_366 : decode cJ22_pow 366 = .ok (.astore 10, 2) := dk_58 10 (dk_at dksJ22_pow_15 21 rfl rfl)
theorem dJ22_pow_368 : decode cJ22_pow 368 = .ok (.iload 11, 2) := dk_21 11 (dk_at dksJ22_pow_16 0 rfl rfl)
theorem dJ22_pow_370 : decode cJ22_pow 370 = .ok (.iconst 1, 1) := dk_4 (dk_at dksJ22_pow_16 2 rfl rfl)
theorem dJ22_pow_371 : decode cJ22_pow 371 = .ok (.iushr, 1) := dk_124 (dk_at dksJ22_pow_16 3 rfl rfl)
theorem dJ22_pow_372 : decode cJ22_pow 372 = .ok (.dup, 1) := dk_89 (dk_at dksJ22_pow_16 4 rfl rfl)
theorem dJ22_pow_373 : decode cJ22_pow 373 = .ok (.istore 11, 2) := dk_54 11 (dk_at dksJ22_pow_16 5 rfl rfl)
theorem dJ22_pow_375 : decode cJ22_pow 375 = .ok (.ifCond .eq (-28), 3) := dk_153 255 228 (dk_at dksJ22_pow_16 7 rfl rfl)
theorem dJ22_pow_378 : decode cJ22_pow 378 = .ok (.aload_n 2, 1) := dk_44 (dk_at dksJ22_pow_16 10 rfl rfl)
theorem dJ22_pow_379 : decode cJ22_pow 379 = .ok (.invokevirtual 319, 3) := dk_182 1 63 (dk_at dksJ22_pow_16 11 rfl rfl)
theorem dJ22_pow_382 : decode cJ22_pow 382 = .ok (.astore_n 2, 1) := dk_77 (dk_at dksJ22_pow_16 14 rfl rfl)
theorem dJ22_pow_383 : decode cJ22_pow 383 = .ok (.goto (-36), 3) := dk_167 255 220 (dk_at dksJ22_pow_16 15 rfl rfl)
theorem dJ22_pow_386 : decode cJ22_pow 386 = .ok (.iload_n 3, 1) := dk_29 (dk_at dksJ22_pow_16 18 rfl rfl)
theorem dJ22_pow_387 : decode cJ22_pow 387 = .ok (.ifCond .le 12, 3) := dk_158 0 12 (dk_at dksJ22_pow_16 19 rfl rfl)
theorem dJ22_pow_390 : decode cJ22_pow 390 = .ok (.aload 10, 2) := dk_25 10 (dk_at dksJ22_pow_16 22 rfl rfl)
theorem dJ22_pow_392 : decode cJ22_pow 392 = .ok (.iload 6, 2) := dk_21 6 (dk_at dksJ22_pow_17 0 rfl rfl)
theorem dJ22_pow_394 : decode cJ22_pow 394 = .ok (.invokevirtual 465, 3) := dk_182 1 209 (dk_at dksJ22_pow_17 2 rfl rfl)
theorem dJ22_pow_397 : decode cJ22_pow 397 = .ok (.astore 10, 2) := dk_58 10 (dk_at dksJ22_pow_17 5 rfl rfl)
theorem dJ22_pow_399 : decode cJ22_pow 399 = .ok (.aload_n 0, 1) := dk_42 (dk_at dksJ22_pow_17 7 rfl rfl)
theorem dJ22_pow_400 : decode cJ22_pow 400 = .ok (.getfield 32, 3) := dk_180 0 32 (dk_at dksJ22_pow_17 8 rfl rfl)
theorem dJ22_pow_403 : decode cJ22_pow 403 = .ok (.ifCond .ge 16, 3) := dk_156 0 16 (dk_at dksJ22_pow_17 11 rfl rfl)
theorem dJ22_pow_406 : decode cJ22_pow 406 = .ok (.iload_n 1, 1) := dk_27 (dk_at dksJ22_pow_17 14 rfl rfl)
theorem dJ22_pow_407 : decode cJ22_pow 407 = .ok (.iconst 1, 1) := dk_4 (dk_at dksJ22_pow_17 15 rfl rfl)
theorem dJ22_pow_408 : decode cJ22_pow 408 = .ok (.iand, 1) := dk_126 (dk_at dksJ22_pow_17 16 rfl rfl)
theorem dJ22_pow_409 : decode cJ22_pow 409 = .ok (.iconst 1, 1) := dk_4 (dk_at dksJ22_pow_17 17 rfl rfl)
theorem dJ22_pow_410 : decode cJ22_pow 410 = .ok (.if_icmp .ne 9, 3) := dk_160 0 9 (dk_at dksJ22_pow_17 18 rfl rfl)
theorem dJ22_pow_413 : decode cJ22_pow 413 = .ok (.aload 10, 2) := dk_25 10 (dk_at dksJ22_pow_17 21 rfl rfl)
theorem dJ22_pow_415 : decode cJ22_pow 415 = .ok (.invokevirtual 394, 3) := dk_182 1 138 (dk_at dksJ22_pow_18 0 rfl rfl)
theorem dJ22_pow_418 : decode cJ22_pow 418 = .ok (.areturn, 1) := dk_176 (dk_at dksJ22_pow_18 3 rfl rfl)
theorem dJ22_pow_419 : decode cJ22_pow 419 = .ok (.aload 10, 2) := dk_25 10 (dk_at dksJ22_pow_18 4 rfl rfl)
theorem dJ22_pow_421 : decode cJ22_pow 421 = .ok (.areturn, 1) := dk_176 (dk_at dksJ22_pow_18 6 rfl rfl)
theorem ydv_J22_abs : yJ22_abs.cls = "java/math/BigInteger" ∧ yJ22_abs.cls ≠ "java/lang/invoke/MethodHandle" ∧ yJ22_abs.cls ≠ "java/lang/invoke/VarHandle" ∧ (parseMethodDescriptor yJ22_abs.desc).map (fun d => d.parameters.length) = some 0 := by decide +kernel
theorem ydv_J22_bitLength : yJ22_bitLength.cls = "java/math/BigInteger" ∧ yJ22_bitLength.cls ≠ "java/lang/invoke/MethodHandle" ∧ yJ22_bitLength.cls ≠ "java/lang/invoke/VarHandle" ∧ (parseMethodDescriptor yJ22_bitLength.desc).map (fun d => d.parameters.length) = some 0 := by decide +kernel
theorem ydv_J22_getLowestSetBit : yJ22_getLowestSetBit.cls = "java/math/BigInteger" ∧ yJ22_getLowestSetBit.cls ≠ "java/lang/invoke/MethodHandle" ∧ yJ22_getLowestSetBit.cls ≠ "java/lang/invoke/VarHandle" ∧ (parseMethodDescriptor yJ22_getLowestSetBit.desc).map (fun d => d.parameters.length) = some 0 := by decide +kernel
theorem ydv_J22_multiply : yJ22_multiply.cls = "java/math/BigInteger" ∧ yJ22_multiply.cls ≠ "java/lang/invoke/MethodHandle" ∧ yJ22_multiply.cls ≠ "java/lang/invoke/VarHandle" ∧ (parseMethodDescriptor yJ22_multiply.desc).map (fun d => d.parameters.length) = some 1 := by decide +kernel
theorem ydv_J22_square_2 : yJ22_square_2.cls = "java/math/BigInteger" ∧ yJ22_square_2.cls ≠ "java/lang/invoke/MethodHandle" ∧ yJ22_square_2.cls ≠ "java/lang/invoke/VarHandle" ∧ (parseMethodDescriptor yJ22_square_2.desc).map (fun d => d.parameters.length) = some 0 := by decide +kernel
theorem yd_J22_valueOf : yJ22_valueOf.cls ≠ "java/lang/invoke/MethodHandle" ∧ yJ22_valueOf.cls ≠ "java/lang/invoke/VarHandle" ∧ (parseMethodDescriptor yJ22_valueOf.desc).map (fun d => d.parameters.length) = some 1 := by decide +kernel
/-! ### powers of five -/
theorem lN_div {a b : Nat} (ha : a < 9223372036854775808) (hb0 : 0 < b) (hb : b < 9223372036854775808) : lN a / lN b = lN (a / b) := by
  apply Int64.toInt_inj.mp
  have h1 : a / b ≤ a := Nat.div_le_self _ _
  have e : ∀ x : Nat, x < 9223372036854775808 → (lN x).toInt = (x : Int) := fun x hx => by rw [lN_lI]; exact lI_toInt (by omega) (by omega)
  rw [Int64.toInt_div_of_ne_right, e a ha, e b hb, e _ (by omega)]
  · rfl
  · intro q
    have := congrArg Int64.toInt q
    rw [e b hb] at this
    have e2 : (-1 : Int64).toInt = -1 := by decide
    omega
theorem pw_odd {R B e : Nat} (h : e % 2 = 1) : R * B * (B * B) ^ (e / 2) = R * B ^ e := by
  have h2 : e = 2 * (e / 2) + 1 := by omega
  rw [show B ^ e = B ^ (2 * (e / 2) + 1) by rw [← h2], Nat.pow_succ, Nat.pow_mul, Nat.pow_two]
  generalize (B * B) ^ (e / 2) = X
  grind
theorem pw_even {R B e : Nat} (h : e % 2 = 0) : R * (B * B) ^ (e / 2) = R * B ^ e := by
  have h2 : e = 2 * (e / 2) := by omega
  rw [show B ^ e = B ^ (2 * (e / 2)) by rw [← h2], Nat.pow_mul, Nat.pow_two]
theorem dl_le : ∀ (n v : Nat), v < 4294967296 ^ n → dl v ≤ n
  | 0, v, h => by
    rw [Nat.pow_zero] at h
    rw [show v = 0 by omega, dl_0]
    exact Nat.le_refl _
  | n + 1, v, h => by
    rcases Nat.eq_zero_or_pos v with q | q
    · rw [q, dl_0]; omega
    · rw [dl_p q]
      have := dl_le n (v / 4294967296) (by rw [Nat.div_lt_iff_lt_mul (by decide), ← Nat.pow_succ]; exact h)
      omega
/-- digits of 5 ^ 2 ^ i at most; slots that the first i rounds of pow make at most -/
def np (i : Nat) : Nat := [1, 1, 1, 1, 2, 3, 5, 10].getD i 10
def cs (i : Nat) : Nat := [0, 21, 42, 63, 84, 113, 150, 203, 299].getD i 299
theorem np_ok : ∀ i, i < 8 → 5 ^ 2 ^ i < 4294967296 ^ np i ∧ np i ≤ 10 := by decide +kernel
theorem cs_ok : ∀ i, i < 8 → cs i + (2 * (np i + np i) + 7) ≤ 299 ∧ (i < 7 → cs i + (2 * (np i + np i) + 7) + (4 * np i + 6) ≤ cs (i + 1)) ∧ cs i + (2 * (np i + np i) + 7) ≤ cs (i + 1) ∧ cs i ≤ cs (i + 1) := by decide +kernel
theorem cs_le : ∀ i, i ≤ 8 → cs i ≤ 299 := by decide +kernel
/-- the part and the answer of a round are small -/
theorem np_dl {i : Nat} (hi : i < 8) {v : Nat} (h : v ≤ 5 ^ 2 ^ i) : dl v ≤ np i := dl_le _ _ (Nat.lt_of_le_of_lt h (np_ok i hi).1)
theorem n2_lt {n i : Nat} (hn : n < 256) (h : n / 2 ^ i ≠ 0) : i < 8 := by
  refine Decidable.byContradiction fun q => h ?_
  have : 2 ^ 8 ≤ 2 ^ i := Nat.pow_le_pow_right (by decide) (by omega)
  exact Nat.div_eq_of_lt (by omega)
theorem pow_r {n i : Nat} : 5 ^ (n % 2 ^ (i + 1)) = (if n / 2 ^ i % 2 = 1 then 5 ^ (n % 2 ^ i) * 5 ^ 2 ^ i else 5 ^ (n % 2 ^ i)) := by
  have e : n % 2 ^ (i + 1) = n % 2 ^ i + 2 ^ i * (n / 2 ^ i % 2) := by
    rw [Nat.pow_succ, Nat.mod_mul]
  rw [e]
  rcases Nat.mod_two_eq_zero_or_one (n / 2 ^ i) with h | h
  · rw [h, if_neg (by decide), Nat.mul_zero, Nat.add_zero]
  · rw [h, if_pos rfl, Nat.mul_one, Nat.pow_add]
theorem pow_le_i {n i : Nat} : 5 ^ (n % 2 ^ i) ≤ 5 ^ 2 ^ i := Nat.pow_le_pow_right (by decide) (Nat.le_of_lt (Nat.mod_lt _ (Nat.two_pow_pos i)))
theorem pow_sq (i : Nat) : 5 ^ 2 ^ i * 5 ^ 2 ^ i = 5 ^ 2 ^ (i + 1) := by rw [← Nat.pow_add, Nat.pow_succ 2 i]; congr 1; omega
theorem half_pow {n i : Nat} : n / 2 ^ i / 2 = n / 2 ^ (i + 1) := by rw [Nat.div_div_eq_div_mul, Nat.pow_succ]

set_option maxHeartbeats 1000000 in
theorem m_pow5 (l : Launch) (z : State) (H0 : Heap)  (n0 : Nat) (k : Nat → Nat) (hn0 : n0 ≤ 200) (hzw : zW z) (hsb : sB z k (gfr H0) H0) : Met l yJ22_pow (ws_ yJ22_pow cJ22_pow 16 (some (.object "java/math/BigInteger"))) { frames := 7, cells := 48, slots := 310, locals := 167 } (gPc z H0 [.ref (k 25), .int (nI n0)]) (gRr (gfr H0) H0 (fun r H1 => ∃ w m0 n d, bI z w H1 r m0 n d ((5 ^ n0 : Nat) : Int))) 48 310 (gfr H0) := by
  refine g_start (by decide +kernel) (Nat.le_of_ble_eq_true rfl) ?_
  intro p e s m below meth c ls hx hb hr hlocks hml hown hname hts hwm hl
  have hown : s.vm.findClass "java/math/BigInteger" = some m.cls := hown
  have hal : z.vm.Alike s.vm := hwm.alike
  have hCF : CallFix p m c cJ22_pow 16 s [.ref (k 25), .int (nI n0)].toArray lw_all "java/math/BigInteger" := ⟨hx, hb, hml, hown, hts⟩
  have hl : lv_has ls 16 [(0, .ref (k 25)), (1, .int (nI n0))] := hl
  have hS : va_S (gfr H0) H0 H0 [] := va_S.rf
  have hb5 := (hsb.2.2.1.2.2 5 (by decide) (by decide)).1
  have hPart0 := hb5
  obtain ⟨c1, c2, c3, c4, hO5, hM5, hd5, hv5, h05, hn5, hc2, hc3⟩ := hb5
  have hc2e : c2 = nI (3 + 1) := by
    rcases hc2 with q | ⟨b, q, q2, q3⟩
    · exact absurd q.1 (by decide)
    · rw [q, isBl_uniq q2 (show isBl 5 3 by unfold isBl; decide)]
  have hc3e : c3 = nI (0 + 2) := by
    rcases hc3 with q | q | ⟨t, q, q2, q3⟩
    · exact absurd q.1 (by decide)
    · exact absurd q.1 (by decide)
    · rw [q, isTz_uniq q2 (show isTz 5 0 by unfold isTz; decide)]
  subst hc2e hc3e
  have hO5 : gO z false RJ22 TJ22 6 H0 (k 25) [.int 1, .ref (k 45), .int c1, .int (nI (3 + 1)), .int (nI (0 + 2)), .int c4] := hO5
  have hst9 := hS.1
  have lt__k_25_ := hO5.lt
  have lt__k_45_ := hM5.lt
  refine lv_iload_n hx hb dJ22_pow_0 rfl (lv_at hl 1 rfl) ?_
  refine lv_if_ge (tgt := 15) hx hb dJ22_pow_1 (by decide) (fun c_1 => ?_) (fun c_1 => False.elim (by
    have c_1 := mt (ai_le (a := 0) (b := n0) (rfl) (rfl) (by omega) (by omega)).mpr c_1
    omega))
  have c_1 := (ai_le (a := 0) (b := n0) (rfl) (rfl) (by omega) (by omega)).mp c_1
  refine lv_aload_n hx hb dJ22_pow_15 rfl (lv_at hl 0 rfl) ?_
  refine gw_get (C := RJ22) (T := TJ22) (N := 6) (v := .int 1) hx hb hts in_J22 hown hal hO5 0 (by decide) (hts _ q835) (fun _ h9 => h9) rfl dJ22_pow_16 ?_
  refine lv_if_ne (tgt := 34) hx hb dJ22_pow_19 (by decide) (fun c_19 => ?_) (fun c_19 => absurd c_19 (by decide))
  refine lv_aload_n hx hb dJ22_pow_34 rfl (lv_at hl 0 rfl) ?_
  refine gcV0_rP hCF hwm hl.1 (m_abs2 l z H0 (k 25) false (k 45) c1 (nI (3 + 1)) (nI (0 + 2)) c4 hO5 ) (lw_V q810 q811 q812 q83 q813) ydv_J22_abs (hO5.recv hal) ⟨Nat.le_of_ble_eq_true rfl, Nat.le_of_ble_eq_true rfl⟩ ⟨by first | omega | (dsimp only; omega), by first | omega | (dsimp only; omega)⟩ (Nat.le_of_ble_eq_true rfl) dJ22_pow_35 (fun r_1 hp => ?_)
  replace hp := hp.symm
  subst hp
  refine lv_astore_n hx hb dJ22_pow_38 rfl hl (by decide) rfl (fun ls hl => ?_)
  have hl : lv_has ls 16 [(2, .ref (k 25)), (0, .ref (k 25)), (1, .int (nI n0))] := hl
  refine lv_aload_n hx hb dJ22_pow_39 rfl (lv_at hl 0 rfl) ?_
  refine gcV0_iP hCF hwm hl.1 (m_lsbC l z H0 (k 25) 0 1 false (k 45) c1 (nI (3 + 1)) (nI (0 + 2)) c4 (by decide) rfl hO5 ) (lw_V q1511 q1512 q1513 q83 q1514) ydv_J22_getLowestSetBit (hO5.recv hal) ⟨Nat.le_of_ble_eq_true rfl, Nat.le_of_ble_eq_true rfl⟩ ⟨by first | omega | (dsimp only; omega), by first | omega | (dsimp only; omega)⟩ (Nat.le_of_ble_eq_true rfl) dJ22_pow_40 (fun r_2 hp => ?_)
  subst hp
  refine lv_istore_n hx hb dJ22_pow_43 rfl hl (by decide) rfl (fun ls hl => ?_)
  have hl : lv_has ls 16 [(3, .int (nI 0)), (2, .ref (k 25)), (0, .ref (k 25)), (1, .int (nI n0))] := hl
  refine lv_iload_n hx hb dJ22_pow_44 rfl (lv_at hl 0 rfl) ?_
  refine lv_i2l hx hb dJ22_pow_45 rfl ?_
  refine g_topl (v := lN 0) (ai_i2l (rfl) (by omega)) ?_
  refine lv_iload_n hx hb dJ22_pow_46 rfl (lv_at hl 3 rfl) ?_
  refine lv_i2l hx hb dJ22_pow_47 rfl ?_
  refine g_topl (v := lN n0) (ai_i2l (rfl) (by omega)) ?_
  refine lv_lmul hx hb dJ22_pow_48 ?_
  refine g_topl (v := lN (0 * n0)) (ai_mulL (a := 0) (b := n0) (rfl) (rfl)) ?_
  refine lv_lstore hx hb dJ22_pow_49 hl (by decide) rfl (fun ls hl => ?_)
  have hl : lv_has ls 16 [(4, .long (lN (0 * n0))), (3, .int (nI 0)), (2, .ref (k 25)), (0, .ref (k 25)), (1, .int (nI n0))] := hl
  refine lv_lload hx hb dJ22_pow_51 (lv_at hl 0 rfl) ?_
  refine lv_ldc2 (v := 2147483647) hx hb hown (hts _ q1515) dJ22_pow_53 ?_
  refine W.lcmp hx hb dJ22_pow_56 ?_
  refine lv_if_le (tgt := 63) hx hb dJ22_pow_57 (by decide) (fun c_57 => ?_) (fun c_57 => False.elim (by
    have c_57 := mt (ai_cle (a := ((0 * n0) : Nat)) (b := 2147483647) (lN_lI _) (by decide) (by omega) (by omega) (by omega) (by omega)).mpr c_57
    omega))
  have c_57 := (ai_cle (a := ((0 * n0) : Nat)) (b := 2147483647) (lN_lI _) (by decide) (by omega) (by omega) (by omega) (by omega)).mp c_57
  refine lv_lload hx hb dJ22_pow_63 (lv_at hl 0 rfl) ?_
  refine lv_l2i hx hb dJ22_pow_65 rfl ?_
  refine g_topi (v := nI (0 * n0)) (ai_l2i (rfl)) ?_
  refine lv_istore hx hb dJ22_pow_66 hl (by decide) rfl (fun ls hl => ?_)
  have hl : lv_has ls 16 [(6, .int (nI (0 * n0))), (4, .long (lN (0 * n0))), (3, .int (nI 0)), (2, .ref (k 25)), (0, .ref (k 25)), (1, .int (nI n0))] := hl
  refine lv_iload_n hx hb dJ22_pow_68 rfl (lv_at hl 2 rfl) ?_
  refine lv_if_le (tgt := 122) hx hb dJ22_pow_69 (by decide) (fun c_69 => ?_) (fun c_69 => absurd (by decide) c_69)
  refine lv_aload_n hx hb dJ22_pow_122 rfl (lv_at hl 3 rfl) ?_
  refine gcV0_iP hCF hwm hl.1 (m_blC l z H0 (k 25) 3 1 false (k 45) c1 (nI (3 + 1)) (nI (0 + 2)) c4 (by decide) rfl hO5 ) (lw_V q854 q855 q856 q83 q857) ydv_J22_bitLength (hO5.recv hal) ⟨Nat.le_of_ble_eq_true rfl, Nat.le_of_ble_eq_true rfl⟩ ⟨by first | omega | (dsimp only; omega), by first | omega | (dsimp only; omega)⟩ (Nat.le_of_ble_eq_true rfl) dJ22_pow_123 (fun r_3 hp => ?_)
  subst hp
  refine lv_istore hx hb dJ22_pow_126 hl (by decide) rfl (fun ls hl => ?_)
  have hl : lv_has ls 16 [(7, .int (nI 3)), (6, .int (nI (0 * n0))), (4, .long (lN (0 * n0))), (3, .int (nI 0)), (2, .ref (k 25)), (0, .ref (k 25)), (1, .int (nI n0))] := hl
  refine lv_iload hx hb dJ22_pow_128 (lv_at hl 0 rfl) ?_
  refine lv_iconst (v := 1) hx hb dJ22_pow_130 (by decide) ?_
  refine lv_icmp_ne (tgt := 156) hx hb dJ22_pow_131 (by decide) (fun c_131 => ?_) (fun c_131 => absurd c_131 (by decide))
  refine lv_iload hx hb dJ22_pow_156 (lv_at hl 0 rfl) ?_
  refine lv_i2l hx hb dJ22_pow_158 rfl ?_
  refine g_topl (v := lN 3) (ai_i2l (rfl) (by omega)) ?_
  refine lv_iload_n hx hb dJ22_pow_159 rfl (lv_at hl 6 rfl) ?_
  refine lv_i2l hx hb dJ22_pow_160 rfl ?_
  refine g_topl (v := lN n0) (ai_i2l (rfl) (by omega)) ?_
  refine lv_lmul hx hb dJ22_pow_161 ?_
  refine g_topl (v := lN (3 * n0)) (ai_mulL (a := 3) (b := n0) (rfl) (rfl)) ?_
  refine lv_lstore hx hb dJ22_pow_162 hl (by decide) rfl (fun ls hl => ?_)
  have hl : lv_has ls 16 [(8, .long (lN (3 * n0))), (7, .int (nI 3)), (6, .int (nI (0 * n0))), (4, .long (lN (0 * n0))), (3, .int (nI 0)), (2, .ref (k 25)), (0, .ref (k 25)), (1, .int (nI n0))] := hl
  refine lv_aload_n hx hb dJ22_pow_164 rfl (lv_at hl 5 rfl) ?_
  refine gw_get (C := RJ22) (T := TJ22) (N := 6) (v := .ref (k 45)) hx hb hts in_J22 hown hal hO5 1 (by decide) (hts _ q837) (fun _ h9 => h9) rfl dJ22_pow_165 ?_
  refine gw_len hx hb hal hM5 dJ22_pow_168 ?_
  refine lv_iconst (v := 1) hx hb dJ22_pow_169 (by decide) ?_
  refine lv_icmp_ne (tgt := 317) hx hb dJ22_pow_170 (by decide) (fun c_170 => absurd (rfl) c_170) (fun c_170 => ?_)
  refine lv_lload hx hb dJ22_pow_173 (lv_at hl 0 rfl) ?_
  refine lv_ldc2 (v := 62) hx hb hown (hts _ q1522) dJ22_pow_175 ?_
  refine W.lcmp hx hb dJ22_pow_178 ?_
  refine lv_if_gt (tgt := 317) hx hb dJ22_pow_179 (by decide) (fun c_179 => ?_) (fun c_179 => ?_)
  · skip
    have c_179 := (ai_cgt (a := ((3 * n0) : Nat)) (b := 62) (lN_lI _) (by decide) (by omega) (by omega) (by omega) (by omega)).mp c_179
    refine lv_aload_n hx hb dJ22_pow_317 rfl (lv_at hl 6 rfl) ?_
    refine gcV0_iP hCF hwm hl.1 (m_blC l z H0 (k 25) 3 1 false (k 45) c1 (nI (3 + 1)) (nI (0 + 2)) c4 (by decide) rfl hO5 ) (lw_V q854 q855 q856 q83 q857) ydv_J22_bitLength (hO5.recv hal) ⟨Nat.le_of_ble_eq_true rfl, Nat.le_of_ble_eq_true rfl⟩ ⟨by first | omega | (dsimp only; omega), by first | omega | (dsimp only; omega)⟩ (Nat.le_of_ble_eq_true rfl) dJ22_pow_318 (fun r_4 hp => ?_)
    subst hp
    refine lv_i2l hx hb dJ22_pow_321 rfl ?_
    refine g_topl (v := lN 3) (ai_i2l (rfl) (by omega)) ?_
    refine lv_iload_n hx hb dJ22_pow_322 rfl (lv_at hl 7 rfl) ?_
    refine lv_i2l hx hb dJ22_pow_323 rfl ?_
    refine g_topl (v := lN n0) (ai_i2l (rfl) (by omega)) ?_
    refine lv_lmul hx hb dJ22_pow_324 ?_
    refine g_topl (v := lN (3 * n0)) (ai_mulL (a := 3) (b := n0) (rfl) (rfl)) ?_
    refine lv_ldc2 (v := 32) hx hb hown (hts _ q1524) dJ22_pow_325 ?_
    refine lv_ldiv hx hb dJ22_pow_328 (by decide) ?_
    refine g_topl (v := (lN (3 * n0 / 32))) ?_ ?_
    · skip
      exact lN_div (by omega) (by decide) (by decide)
    refine lv_ldc2 (v := 67108864) hx hb hown (hts _ q1525) dJ22_pow_329 ?_
    refine W.lcmp hx hb dJ22_pow_332 ?_
    refine lv_if_le (tgt := 339) hx hb dJ22_pow_333 (by decide) (fun c_333 => ?_) (fun c_333 => False.elim (by
      have c_333 := mt (ai_cle (a := ((3 * n0 / 32) : Nat)) (b := 67108864) (lN_lI _) (by decide) (by omega) (by omega) (by omega) (by omega)).mpr c_333
      omega))
    have c_333 := (ai_cle (a := ((3 * n0 / 32) : Nat)) (b := 67108864) (lN_lI _) (by decide) (by omega) (by omega) (by omega) (by omega)).mp c_333
    refine gw_gets  hx hb hal hsb.1.2.1 hS hown (hts _ q1509) (fun _ h9 => h9) dJ22_pow_339 ?_
    have hAns : bI z false H0 (k 15) (k 19) 1 (cd 1) ((5 ^ (n0 % 2 ^ 0) : Nat) : Int) := by
      have q := (hsb.cur hS).2.2.1.2.1
      rw [Nat.pow_zero, Nat.mod_one]
      exact q
    have hPart : bI z false H0 (k 25) (k 45) 1 (cd 5) ((5 ^ 2 ^ 0 : Nat) : Int) := hPart0
    refine lv_astore hx hb dJ22_pow_342 hl (by decide) rfl (fun ls hl => ?_)
    have hl : lv_has ls 16 [(10, .ref (k 15)), (8, .long (lN (3 * n0))), (7, .int (nI 3)), (6, .int (nI (0 * n0))), (4, .long (lN (0 * n0))), (3, .int (nI 0)), (2, .ref (k 25)), (0, .ref (k 25)), (1, .int (nI n0))] := hl
    refine lv_iload_n hx hb dJ22_pow_344 rfl (lv_at hl 8 rfl) ?_
    refine lv_istore hx hb dJ22_pow_345 hl (by decide) rfl (fun ls hl => ?_)
    have hl : lv_has ls 16 [(11, .int (nI n0)), (10, .ref (k 15)), (8, .long (lN (3 * n0))), (7, .int (nI 3)), (6, .int (nI (0 * n0))), (4, .long (lN (0 * n0))), (3, .int (nI 0)), (2, .ref (k 25)), (0, .ref (k 25)), (1, .int (nI n0))] := hl
    replace hl : lv_has ls 16 [(11, .int (nI (n0 / 2 ^ 0))), (10, .ref (k 15)), (8, .long (lN (3 * n0))), (7, .int (nI 3)), (6, .int (nI (0 * n0))), (4, .long (lN (0 * n0))), (3, .int (nI 0)), (2, .ref (k 25)), (0, .ref (k 25)), (1, .int (nI n0))] := by
      rw [Nat.pow_zero, Nat.div_one]
      exact hl
    have loopB : ∀ (n_ : Nat) (it ar am an pr pm pn pv : Nat) (wa wp : Bool) (ad pd : Nat → Nat), (it ≤ 8) → (it = 8 → n0 / 2 ^ it = 0) → (n0 / 2 ^ it ≠ 0 → pv = 5 ^ 2 ^ it) → (n0 / 2 ^ it) < n_ → ∀ (H_5 : Heap) (locs : List Loc), va_S (gfr H0) H0 H_5 locs → gO z false RJ22 TJ22 6 H_5 (k 25) [.int 1, .ref (k 45), .int c1, .int (nI (3 + 1)), .int (nI (0 + 2)), .int c4] → gI z false .int H_5 (k 45) 1 (dI (cd 5)) → bI z wa H_5 ar am an ad ((5 ^ (n0 % 2 ^ it) : Nat) : Int) → bI z wp H_5 pr pm pn pd ((pv : Nat) : Int) → ∀ (ls : Array Slot), lv_has ls 16 [(11, .int (nI (n0 / 2 ^ it))), (10, .ref ar), (8, .long (lN (3 * n0))), (7, .int (nI 3)), (6, .int (nI (0 * n0))), (4, .long (lN (0 * n0))), (3, .int (nI 0)), (2, .ref pr), (0, .ref (k 25)), (1, .int (nI n0))] → W p l e { frames := 7, cells := 48, slots := 310, locals := 167 } s m [.ref (k 25), .int (nI n0)].toArray below meth c H_5 locs (6 * it) (cs it) (MQ below (gRr (gfr H0) H0 (fun r H1 => ∃ w m0 n d, bI z w H1 r m0 n d ((5 ^ n0 : Nat) : Int))) [.ref (k 25), .int (nI n0)].toArray s 48 310 (gfr H0)) (F0 m 347 ls []) := by
      intro n_
      induction n_ with
      | zero => intro it ar am an pr pm pn pv wa wp ad pd hit hz8 hpv hm_; exact absurd hm_ (Nat.not_lt_zero _)
      | succ n_ ih_loopB =>
        intro it ar am an pr pm pn pv wa wp ad pd hit hz8 hpv hm_ H_5 locs hS hO5 hM5 hAns hPart ls hl
        refine lv_iload hx hb dJ22_pow_347 (lv_at hl 0 rfl) ?_
        have hnle : n0 / 2 ^ it ≤ n0 := Nat.div_le_self _ _
        refine lv_if_eq (tgt := 386) hx hb dJ22_pow_349 (by decide) (fun c_349 => ?_) (fun c_349 => ?_)
        · skip
          have c_349 := (ai_eq (a := (n0 / 2 ^ it)) (b := 0) (rfl) (rfl) (by omega) (by omega)).mp c_349
          have hcs9 := cs_le it hit
          refine lv_iload_n hx hb dJ22_pow_386 rfl (lv_at hl 6 rfl) ?_
          refine lv_if_le (tgt := 399) hx hb dJ22_pow_387 (by decide) (fun c_387 => ?_) (fun c_387 => absurd (by decide) c_387)
          refine lv_aload_n hx hb dJ22_pow_399 rfl (lv_at hl 8 rfl) ?_
          refine gw_get (C := RJ22) (T := TJ22) (N := 6) (v := .int 1) hx hb hts in_J22 hown hal hO5 0 (by decide) (hts _ q835) (fun _ h9 => h9) rfl dJ22_pow_400 ?_
          refine lv_if_ge (tgt := 419) hx hb dJ22_pow_403 (by decide) (fun c_403 => ?_) (fun c_403 => absurd (by decide) c_403)
          refine lv_aload hx hb dJ22_pow_419 (lv_at hl 1 rfl) ?_
          refine g_aret hx hb hr hlocks (Or.inl ⟨_, rfl⟩) hS (by first | omega | (dsimp only; omega)) (by first | omega | (dsimp only; omega)) ?_ dJ22_pow_421
          have e0 : n0 % 2 ^ it = n0 := by
            have := Nat.div_add_mod n0 (2 ^ it)
            rw [c_349, Nat.mul_zero] at this
            omega
          rw [e0] at hAns
          exact ⟨wa, am, an, ad, hAns⟩
        · skip
          have c_349 := mt (ai_eq (a := (n0 / 2 ^ it)) (b := 0) (rfl) (rfl) (by omega) (by omega)).mpr c_349
          have hpve := hpv c_349
          rw [hpve] at hPart
          have hcs2 := cs_le (it + 1) (by have := n2_lt (by omega) c_349; omega)
          have hit8 := n2_lt (by omega) c_349
          have han := hAns.len
          have hpn := hPart.len
          rw [Int.natAbs_natCast] at han hpn
          have han2 := np_dl hit8 (pow_le_i (n := n0))
          have hpn2 := np_dl hit8 (Nat.le_refl (5 ^ 2 ^ it))
          have hnp := (np_ok it hit8).2
          have hcs := cs_ok it hit8
          rw [← han] at han2
          rw [← hpn] at hpn2
          have hpw1 : 0 < 5 ^ (n0 % 2 ^ it) := Nat.pow_pos (by decide)
          have hpw2 : 0 < 5 ^ 2 ^ it := Nat.pow_pos (by decide)
          have hnle : n0 / 2 ^ it ≤ n0 := Nat.div_le_self _ _
          refine lv_iload hx hb dJ22_pow_352 (lv_at hl 0 rfl) ?_
          refine lv_iconst (v := 1) hx hb dJ22_pow_354 (by decide) ?_
          refine lv_iand hx hb dJ22_pow_355 ?_
          refine g_topi (v := nI ((n0 / 2 ^ it) % 2)) (ai_and1 (a := (n0 / 2 ^ it)) (rfl) (by omega)) ?_
          refine lv_iconst (v := 1) hx hb dJ22_pow_356 (by decide) ?_
          refine lv_icmp_ne (tgt := 368) hx hb dJ22_pow_357 (by decide) (fun c_357 => ?_) (fun c_357 => ?_)
          · skip
            have c_357 := mt (ai_eq (a := ((n0 / 2 ^ it) % 2)) (b := 1) (rfl) (rfl) (by omega) (by omega)).mpr c_357
            refine lv_iload hx hb dJ22_pow_368 (lv_at hl 0 rfl) ?_
            refine lv_iconst (v := 1) hx hb dJ22_pow_370 (by decide) ?_
            refine lv_iushr hx hb dJ22_pow_371 rfl ?_
            refine g_topi (v := nI ((n0 / 2 ^ it) / 2)) (ai_ushr (a := (n0 / 2 ^ it)) (k := 1) (rfl) (rfl) (by omega) (by omega)) ?_
            refine lv_dup hx hb dJ22_pow_372 rfl ?_
            refine lv_istore hx hb dJ22_pow_373 hl (by decide) rfl (fun ls hl => ?_)
            have hl : lv_has ls 16 [(11, .int (nI ((n0 / 2 ^ it) / 2))), (10, .ref ar), (8, .long (lN (3 * n0))), (7, .int (nI 3)), (6, .int (nI (0 * n0))), (4, .long (lN (0 * n0))), (3, .int (nI 0)), (2, .ref pr), (0, .ref (k 25)), (1, .int (nI n0))] := hl
            refine lv_if_eq (tgt := 347) hx hb dJ22_pow_375 (by decide) (fun c_375 => ?_) (fun c_375 => ?_)
            · skip
              have c_375 := (ai_eq (a := ((n0 / 2 ^ it) / 2)) (b := 0) (rfl) (rfl) (by omega) (by omega)).mp c_375
              replace hl : lv_has ls 16 [(11, .int (nI (n0 / 2 ^ (it + 1)))), (10, .ref ar), (8, .long (lN (3 * n0))), (7, .int (nI 3)), (6, .int (nI (0 * n0))), (4, .long (lN (0 * n0))), (3, .int (nI 0)), (2, .ref pr), (0, .ref (k 25)), (1, .int (nI n0))] := by
                rw [← half_pow]
                exact hl
              rw [show 5 ^ (n0 % 2 ^ it) = 5 ^ (n0 % 2 ^ (it + 1)) by rw [pow_r (n := n0) (i := it), if_neg c_357]] at hAns
              exact W.widen (by omega) (by have := cs_ok it hit8; omega) (ih_loopB (it + 1) ar am an pr pm pn (5 ^ 2 ^ it) wa wp ad pd (by omega) (fun q => by rw [q]; exact Nat.div_eq_of_lt (by omega)) (fun q => absurd (by rw [← half_pow]; exact c_375) q) (by have := half_pow (n := n0) (i := it); have hz := c_349; omega) H_5 _ hS hO5 hM5 hAns hPart ls (lv_sub hl [0, 1, 2, 3, 4, 5, 6, 7, 8, 9] rfl))
            · skip
              have c_375 := mt (ai_eq (a := ((n0 / 2 ^ it) / 2)) (b := 0) (rfl) (rfl) (by omega) (by omega)).mpr c_375
              have hit7 : it < 7 := by
                refine Decidable.byContradiction fun q => c_375 ?_
                rw [half_pow]
                exact Nat.div_eq_of_lt (by have : 2 ^ 8 ≤ 2 ^ (it + 1) := Nat.pow_le_pow_right (by decide) (by omega); omega)
              refine lv_aload_n hx hb dJ22_pow_378 rfl (lv_at hl 7 rfl) ?_
              have hsz := hS.1
              refine gcV0_r hCF hwm hl.1 (m_square l z H_5 pr (5 ^ 2 ^ it) wp pm pn pd hpw2 (by omega) hPart hzw ) (lw_V q1269 q1271 qs23 q83 q1272) ydv_J22_square_2 (hPart.recv hal) hS (fun q h => Nat.le_trans hS.1 h) ⟨Nat.le_of_ble_eq_true rfl, Nat.le_of_ble_eq_true rfl⟩ ⟨by first | omega | (dsimp only; omega), by first | omega | (dsimp only; omega)⟩ (Nat.le_of_ble_eq_true rfl) dJ22_pow_379 (fun rp2 H_6 locs hp hex hS => ?_)
              have sz_H_6 : H_5.size ≤ H_6.size := hex.1
              have hgx := hex.x
              clear hex
              have hO5 := hO5.x hgx
              have hM5 := hM5.x hgx
              have hAns := hAns.x hgx
              obtain ⟨pm2, pn2, pd2, hmp1, hmp2, hPart⟩ := hp
              have lt_hPart := hPart.lt
              refine lv_astore_n hx hb dJ22_pow_382 rfl hl (by decide) rfl (fun ls hl => ?_)
              have hl : lv_has ls 16 [(2, .ref rp2), (11, .int (nI ((n0 / 2 ^ it) / 2))), (10, .ref ar), (8, .long (lN (3 * n0))), (7, .int (nI 3)), (6, .int (nI (0 * n0))), (4, .long (lN (0 * n0))), (3, .int (nI 0)), (0, .ref (k 25)), (1, .int (nI n0))] := hl
              refine lv_goto (tgt := 347) hx hb dJ22_pow_383 (by decide) ?_
              replace hl : lv_has ls 16 [(2, .ref rp2), (11, .int (nI (n0 / 2 ^ (it + 1)))), (10, .ref ar), (8, .long (lN (3 * n0))), (7, .int (nI 3)), (6, .int (nI (0 * n0))), (4, .long (lN (0 * n0))), (3, .int (nI 0)), (0, .ref (k 25)), (1, .int (nI n0))] := by
                rw [← half_pow]
                exact hl
              rw [show 5 ^ (n0 % 2 ^ it) = 5 ^ (n0 % 2 ^ (it + 1)) by rw [pow_r (n := n0) (i := it), if_neg c_357]] at hAns
              rw [pow_sq] at hPart
              exact W.widen (by omega) (by have := cs_ok it hit8; omega) (ih_loopB (it + 1) ar am an rp2 pm2 pn2 (5 ^ 2 ^ (it + 1)) wa true ad pd2 (by omega) (fun q => by rw [q]; exact Nat.div_eq_of_lt (by omega)) (fun _ => rfl) (by have := half_pow (n := n0) (i := it); have hz := c_349; omega) H_6 _ hS hO5 hM5 hAns hPart ls (lv_sub hl [1, 2, 3, 4, 5, 6, 7, 0, 8, 9] rfl))
          · skip
            have c_357 := (ai_eq (a := ((n0 / 2 ^ it) % 2)) (b := 1) (rfl) (rfl) (by omega) (by omega)).mp c_357
            refine lv_aload hx hb dJ22_pow_360 (lv_at hl 1 rfl) ?_
            refine lv_aload_n hx hb dJ22_pow_362 rfl (lv_at hl 7 rfl) ?_
            have hsz := hS.1
            refine gcV1_r hCF hwm hl.1 (m_mul l z H_5 ar pr (5 ^ (n0 % 2 ^ it)) (5 ^ 2 ^ it) wa wp am an pm pn ad pd hpw1 hpw2 (by omega) (by omega) hAns hPart hzw ) (lw_V q1334 q1199 q1200 q83 q1201) ydv_J22_multiply (hAns.recv hal) hS (fun q h => Nat.le_trans hS.1 h) ⟨Nat.le_of_ble_eq_true rfl, Nat.le_of_ble_eq_true rfl⟩ ⟨by first | omega | (dsimp only; omega), by first | omega | (dsimp only; omega)⟩ (Nat.le_of_ble_eq_true rfl) dJ22_pow_363 (fun ra2 H_7 locs hp hex hS => ?_)
            have sz_H_7 : H_5.size ≤ H_7.size := hex.1
            have hgx := hex.x
            clear hex
            have hO5 := hO5.x hgx
            have hM5 := hM5.x hgx
            have hPart := hPart.x hgx
            obtain ⟨am2, an2, ad2, hma1, hma2, hAns⟩ := hp
            have lt_hAns := hAns.lt
            refine lv_astore hx hb dJ22_pow_366 hl (by decide) rfl (fun ls hl => ?_)
            have hl : lv_has ls 16 [(10, .ref ra2), (11, .int (nI (n0 / 2 ^ it))), (8, .long (lN (3 * n0))), (7, .int (nI 3)), (6, .int (nI (0 * n0))), (4, .long (lN (0 * n0))), (3, .int (nI 0)), (2, .ref pr), (0, .ref (k 25)), (1, .int (nI n0))] := hl
            refine lv_iload hx hb dJ22_pow_368 (lv_at hl 1 rfl) ?_
            refine lv_iconst (v := 1) hx hb dJ22_pow_370 (by decide) ?_
            refine lv_iushr hx hb dJ22_pow_371 rfl ?_
            refine g_topi (v := nI ((n0 / 2 ^ it) / 2)) (ai_ushr (a := (n0 / 2 ^ it)) (k := 1) (rfl) (rfl) (by omega) (by omega)) ?_
            refine lv_dup hx hb dJ22_pow_372 rfl ?_
            refine lv_istore hx hb dJ22_pow_373 hl (by decide) rfl (fun ls hl => ?_)
            have hl : lv_has ls 16 [(11, .int (nI ((n0 / 2 ^ it) / 2))), (10, .ref ra2), (8, .long (lN (3 * n0))), (7, .int (nI 3)), (6, .int (nI (0 * n0))), (4, .long (lN (0 * n0))), (3, .int (nI 0)), (2, .ref pr), (0, .ref (k 25)), (1, .int (nI n0))] := hl
            refine lv_if_eq (tgt := 347) hx hb dJ22_pow_375 (by decide) (fun c_375 => ?_) (fun c_375 => ?_)
            · skip
              have c_375 := (ai_eq (a := ((n0 / 2 ^ it) / 2)) (b := 0) (rfl) (rfl) (by omega) (by omega)).mp c_375
              replace hl : lv_has ls 16 [(11, .int (nI (n0 / 2 ^ (it + 1)))), (10, .ref ra2), (8, .long (lN (3 * n0))), (7, .int (nI 3)), (6, .int (nI (0 * n0))), (4, .long (lN (0 * n0))), (3, .int (nI 0)), (2, .ref pr), (0, .ref (k 25)), (1, .int (nI n0))] := by
                rw [← half_pow]
                exact hl
              rw [show 5 ^ (n0 % 2 ^ it) * 5 ^ 2 ^ it = 5 ^ (n0 % 2 ^ (it + 1)) by rw [pow_r, if_pos c_357]] at hAns
              exact W.widen (by omega) (by have := cs_ok it hit8; omega) (ih_loopB (it + 1) ra2 am2 an2 pr pm pn (5 ^ 2 ^ it) true wp ad2 pd (by omega) (fun q => by rw [q]; exact Nat.div_eq_of_lt (by omega)) (fun q => absurd (by rw [← half_pow]; exact c_375) q) (by have := half_pow (n := n0) (i := it); have hz := c_349; omega) H_7 _ hS hO5 hM5 hAns hPart ls (lv_sub hl [0, 1, 2, 3, 4, 5, 6, 7, 8, 9] rfl))
            · skip
              have c_375 := mt (ai_eq (a := ((n0 / 2 ^ it) / 2)) (b := 0) (rfl) (rfl) (by omega) (by omega)).mpr c_375
              have hit7 : it < 7 := by
                refine Decidable.byContradiction fun q => c_375 ?_
                rw [half_pow]
                exact Nat.div_eq_of_lt (by have : 2 ^ 8 ≤ 2 ^ (it + 1) := Nat.pow_le_pow_right (by decide) (by omega); omega)
              refine lv_aload_n hx hb dJ22_pow_378 rfl (lv_at hl 7 rfl) ?_
              have hsz := hS.1
              refine gcV0_r hCF hwm hl.1 (m_square l z H_7 pr (5 ^ 2 ^ it) wp pm pn pd hpw2 (by omega) hPart hzw ) (lw_V q1269 q1271 qs23 q83 q1272) ydv_J22_square_2 (hPart.recv hal) hS (fun q h => Nat.le_trans hS.1 h) ⟨Nat.le_of_ble_eq_true rfl, Nat.le_of_ble_eq_true rfl⟩ ⟨by first | omega | (dsimp only; omega), by first | omega | (dsimp only; omega)⟩ (Nat.le_of_ble_eq_true rfl) dJ22_pow_379 (fun rp2 H_8 locs hp hex hS => ?_)
              have sz_H_8 : H_7.size ≤ H_8.size := hex.1
              have hgx := hex.x
              clear hex
              have hO5 := hO5.x hgx
              have hM5 := hM5.x hgx
              have hAns := hAns.x hgx
              obtain ⟨pm2, pn2, pd2, hmp1, hmp2, hPart⟩ := hp
              have lt_hPart := hPart.lt
              refine lv_astore_n hx hb dJ22_pow_382 rfl hl (by decide) rfl (fun ls hl => ?_)
              have hl : lv_has ls 16 [(2, .ref rp2), (11, .int (nI ((n0 / 2 ^ it) / 2))), (10, .ref ra2), (8, .long (lN (3 * n0))), (7, .int (nI 3)), (6, .int (nI (0 * n0))), (4, .long (lN (0 * n0))), (3, .int (nI 0)), (0, .ref (k 25)), (1, .int (nI n0))] := hl
              refine lv_goto (tgt := 347) hx hb dJ22_pow_383 (by decide) ?_
              replace hl : lv_has ls 16 [(2, .ref rp2), (11, .int (nI (n0 / 2 ^ (it + 1)))), (10, .ref ra2), (8, .long (lN (3 * n0))), (7, .int (nI 3)), (6, .int (nI (0 * n0))), (4, .long (lN (0 * n0))), (3, .int (nI 0)), (0, .ref (k 25)), (1, .int (nI n0))] := by
                rw [← half_pow]
                exact hl
              rw [show 5 ^ (n0 % 2 ^ it) * 5 ^ 2 ^ it = 5 ^ (n0 % 2 ^ (it + 1)) by rw [pow_r, if_pos c_357]] at hAns
              rw [pow_sq] at hPart
              exact W.widen (by omega) (by have := cs_ok it hit8; omega) (ih_loopB (it + 1) ra2 am2 an2 rp2 pm2 pn2 (5 ^ 2 ^ (it + 1)) true true ad2 pd2 (by omega) (fun q => by rw [q]; exact Nat.div_eq_of_lt (by omega)) (fun _ => rfl) (by have := half_pow (n := n0) (i := it); have hz := c_349; omega) H_8 _ hS hO5 hM5 hAns hPart ls (lv_sub hl [1, 2, 3, 4, 5, 6, 7, 0, 8, 9] rfl))
    exact W.widen (by omega) (by decide) (loopB _ 0 (k 15) (k 19) 1 (k 25) (k 45) 1 (5 ^ 2 ^ 0) false false (cd 1) (cd 5) (by decide) (fun q => by omega) (fun _ => rfl) (Nat.lt_succ_self _) H0 _ hS hO5 hM5 hAns hPart ls (lv_sub hl [0, 1, 2, 3, 4, 5, 6, 7, 8, 9] rfl))
  · skip
    have c_179 := mt (ai_cgt (a := ((3 * n0) : Nat)) (b := 62) (lN_lI _) (by decide) (by omega) (by omega) (by omega) (by omega)).mpr c_179
    refine lv_aload_n hx hb dJ22_pow_182 rfl (lv_at hl 6 rfl) ?_
    refine gw_get (C := RJ22) (T := TJ22) (N := 6) (v := .int 1) hx hb hts in_J22 hown hal hO5 0 (by decide) (hts _ q835) (fun _ h9 => h9) rfl dJ22_pow_183 ?_
    refine lv_if_ge (tgt := 200) hx hb dJ22_pow_186 (by decide) (fun c_186 => ?_) (fun c_186 => absurd (by decide) c_186)
    refine lv_iconst (v := 1) hx hb dJ22_pow_200 (by decide) ?_
    refine lv_istore hx hb dJ22_pow_201 hl (by decide) rfl (fun ls hl => ?_)
    have hl : lv_has ls 16 [(10, .int 1), (8, .long (lN (3 * n0))), (7, .int (nI 3)), (6, .int (nI (0 * n0))), (4, .long (lN (0 * n0))), (3, .int (nI 0)), (2, .ref (k 25)), (0, .ref (k 25)), (1, .int (nI n0))] := hl
    refine lv_lconst (v := 1) hx hb dJ22_pow_203 (by decide) ?_
    refine lv_lstore hx hb dJ22_pow_204 hl (by decide) rfl (fun ls hl => ?_)
    have hl : lv_has ls 16 [(11, .long 1), (10, .int 1), (8, .long (lN (3 * n0))), (7, .int (nI 3)), (6, .int (nI (0 * n0))), (4, .long (lN (0 * n0))), (3, .int (nI 0)), (2, .ref (k 25)), (0, .ref (k 25)), (1, .int (nI n0))] := hl
    refine lv_aload_n hx hb dJ22_pow_206 rfl (lv_at hl 7 rfl) ?_
    refine gw_get (C := RJ22) (T := TJ22) (N := 6) (v := .ref (k 45)) hx hb hts in_J22 hown hal hO5 1 (by decide) (hts _ q837) (fun _ h9 => h9) rfl dJ22_pow_207 ?_
    refine lv_iconst (v := 0) hx hb dJ22_pow_210 (by decide) ?_
    refine gw_iald hx hb hal hM5 0 (rfl) (by omega) (by omega) dJ22_pow_211 ?_
    refine g_topi (v := (nI ((cd 5) 0))) rfl ?_
    refine lv_i2l hx hb dJ22_pow_212 rfl ?_
    refine lv_ldc2 (v := 4294967295) hx hb hown (hts _ q1228) dJ22_pow_213 ?_
    refine lv_land hx hb dJ22_pow_216 ?_
    refine g_topl (v := lN ((cd 5) 0)) (mk32 (a := ((cd 5) 0)) (rfl) (hd5 _)) ?_
    refine lv_lstore hx hb dJ22_pow_217 hl (by decide) rfl (fun ls hl => ?_)
    have hl : lv_has ls 16 [(13, .long (lN ((cd 5) 0))), (11, .long 1), (10, .int 1), (8, .long (lN (3 * n0))), (7, .int (nI 3)), (6, .int (nI (0 * n0))), (4, .long (lN (0 * n0))), (3, .int (nI 0)), (2, .ref (k 25)), (0, .ref (k 25)), (1, .int (nI n0))] := hl
    refine lv_iload_n hx hb dJ22_pow_219 rfl (lv_at hl 10 rfl) ?_
    refine lv_istore hx hb dJ22_pow_220 hl (by decide) rfl (fun ls hl => ?_)
    have hl : lv_has ls 16 [(15, .int (nI n0)), (13, .long (lN ((cd 5) 0))), (11, .long 1), (10, .int 1), (8, .long (lN (3 * n0))), (7, .int (nI 3)), (6, .int (nI (0 * n0))), (4, .long (lN (0 * n0))), (3, .int (nI 0)), (2, .ref (k 25)), (0, .ref (k 25)), (1, .int (nI n0))] := hl
    replace hl : lv_has ls 16 [(15, .int (nI n0)), (13, .long (lN 5)), (11, .long (lN 1)), (10, .int 1), (8, .long (lN (3 * n0))), (7, .int (nI 3)), (6, .int (nI (0 * n0))), (4, .long (lN (0 * n0))), (3, .int (nI 0)), (2, .ref (k 25)), (0, .ref (k 25)), (1, .int (nI n0))] := by
      exact hl
    have loopA : ∀ (n_ : Nat) (R0 B0 ex : Nat), (R0 * B0 ^ ex = 5 ^ n0) → (ex ≤ 200) → (ex) < n_ → ∀ (H_9 : Heap) (locs : List Loc), va_S (gfr H0) H0 H_9 locs → gO z false RJ22 TJ22 6 H_9 (k 25) [.int 1, .ref (k 45), .int c1, .int (nI (3 + 1)), .int (nI (0 + 2)), .int c4] → gI z false .int H_9 (k 45) 1 (dI (cd 5)) → ∀ (ls : Array Slot), lv_has ls 16 [(15, .int (nI ex)), (13, .long (lN B0)), (11, .long (lN R0)), (10, .int 1), (8, .long (lN (3 * n0))), (7, .int (nI 3)), (6, .int (nI (0 * n0))), (4, .long (lN (0 * n0))), (3, .int (nI 0)), (2, .ref (k 25)), (0, .ref (k 25)), (1, .int (nI n0))] → W p l e { frames := 7, cells := 48, slots := 310, locals := 167 } s m [.ref (k 25), .int (nI n0)].toArray below meth c H_9 locs 0 0 (MQ below (gRr (gfr H0) H0 (fun r H1 => ∃ w m0 n d, bI z w H1 r m0 n d ((5 ^ n0 : Nat) : Int))) [.ref (k 25), .int (nI n0)].toArray s 48 310 (gfr H0)) (F0 m 222 ls []) := by
      intro n_
      induction n_ with
      | zero => intro R0 B0 ex hR hex hm_; exact absurd hm_ (Nat.not_lt_zero _)
      | succ n_ ih_loopA =>
        intro R0 B0 ex hR hex hm_ H_9 locs hS hO5 hM5 ls hl
        refine lv_iload hx hb dJ22_pow_222 (lv_at hl 0 rfl) ?_
        refine lv_if_eq (tgt := 262) hx hb dJ22_pow_224 (by decide) (fun c_224 => ?_) (fun c_224 => ?_)
        · skip
          have c_224 := (ai_eq (a := ex) (b := 0) (rfl) (rfl) (by omega) (by omega)).mp c_224
          refine lv_iload_n hx hb dJ22_pow_262 rfl (lv_at hl 8 rfl) ?_
          refine lv_if_le (tgt := 307) hx hb dJ22_pow_263 (by decide) (fun c_263 => ?_) (fun c_263 => absurd (by decide) c_263)
          refine lv_lload hx hb dJ22_pow_307 (lv_at hl 2 rfl) ?_
          refine lv_iload hx hb dJ22_pow_309 (lv_at hl 3 rfl) ?_
          refine lv_i2l hx hb dJ22_pow_311 rfl ?_
          refine g_topl (v := lN 1) (ai_i2l (rfl) (by omega)) ?_
          refine lv_lmul hx hb dJ22_pow_312 ?_
          refine g_topl (v := (lI ((5 ^ n0 : Nat) : Int))) ?_ ?_
          · skip
            rw [← lN_lI]
            show lN R0 * lN 1 = _
            rw [lN_mul, Nat.mul_one, ← hR, show ex = 0 by omega, Nat.pow_zero, Nat.mul_one]
          have hsz := hS.1
          refine gcS1_r hCF hwm hl.1 (m_valueOf l z H_9  ((5 ^ n0 : Nat) : Int) k (by omega) (by have h9 : 5 ^ n0 ≤ 5 ^ 20 := Nat.pow_le_pow_right (by decide) (by omega); have : (5 : Nat) ^ 20 = 95367431640625 := (by decide); omega) (hsb.call hS (fun q h => by have hsz := hS.1; (try dsimp only [gfr] at h ⊢) <;> omega)) ) (lw_S q1523 q1492 q83 q1493) yd_J22_valueOf hS (fun q h => Nat.le_trans hS.1 h) ⟨Nat.le_of_ble_eq_true rfl, Nat.le_of_ble_eq_true rfl⟩ ⟨by first | omega | (dsimp only; omega), by first | omega | (dsimp only; omega)⟩ (Nat.le_of_ble_eq_true rfl) dJ22_pow_313 (fun rv H_10 locs hp hex hS => ?_)
          have sz_H_10 : H_9.size ≤ H_10.size := hex.1
          have hgx := hex.x
          clear hex
          have hO5 := hO5.x hgx
          have hM5 := hM5.x hgx
          obtain ⟨wv, mv, nv, dv, hN, -, -⟩ := hp
          refine g_aret hx hb hr hlocks (Or.inl ⟨_, rfl⟩) hS (by first | omega | (dsimp only; omega)) (by first | omega | (dsimp only; omega)) ?_ dJ22_pow_316
          exact ⟨wv, mv, nv, dv, hN⟩
        · skip
          have c_224 := mt (ai_eq (a := ex) (b := 0) (rfl) (rfl) (by omega) (by omega)).mpr c_224
          refine lv_iload hx hb dJ22_pow_227 (lv_at hl 0 rfl) ?_
          refine lv_iconst (v := 1) hx hb dJ22_pow_229 (by decide) ?_
          refine lv_iand hx hb dJ22_pow_230 ?_
          refine g_topi (v := nI (ex % 2)) (ai_and1 (a := ex) (rfl) (by omega)) ?_
          refine lv_iconst (v := 1) hx hb dJ22_pow_231 (by decide) ?_
          refine lv_icmp_ne (tgt := 242) hx hb dJ22_pow_232 (by decide) (fun c_232 => ?_) (fun c_232 => ?_)
          · skip
            have c_232 := mt (ai_eq (a := (ex % 2)) (b := 1) (rfl) (rfl) (by omega) (by omega)).mpr c_232
            refine lv_iload hx hb dJ22_pow_242 (lv_at hl 0 rfl) ?_
            refine lv_iconst (v := 1) hx hb dJ22_pow_244 (by decide) ?_
            refine lv_iushr hx hb dJ22_pow_245 rfl ?_
            refine g_topi (v := nI (ex / 2)) (ai_ushr (a := ex) (k := 1) (rfl) (rfl) (by omega) (by omega)) ?_
            refine lv_dup hx hb dJ22_pow_246 rfl ?_
            refine lv_istore hx hb dJ22_pow_247 hl (by decide) rfl (fun ls hl => ?_)
            have hl : lv_has ls 16 [(15, .int (nI (ex / 2))), (13, .long (lN B0)), (11, .long (lN R0)), (10, .int 1), (8, .long (lN (3 * n0))), (7, .int (nI 3)), (6, .int (nI (0 * n0))), (4, .long (lN (0 * n0))), (3, .int (nI 0)), (2, .ref (k 25)), (0, .ref (k 25)), (1, .int (nI n0))] := hl
            refine lv_if_eq (tgt := 222) hx hb dJ22_pow_249 (by decide) (fun c_249 => ?_) (fun c_249 => ?_)
            · skip
              have c_249 := (ai_eq (a := (ex / 2)) (b := 0) (rfl) (rfl) (by omega) (by omega)).mp c_249
              exact ih_loopA R0 B0 (ex / 2) (by omega) (by omega) (by omega) H_9 _ hS hO5 hM5 ls (lv_sub hl [0, 1, 2, 3, 4, 5, 6, 7, 8, 9, 10, 11] rfl)
            · skip
              have c_249 := mt (ai_eq (a := (ex / 2)) (b := 0) (rfl) (rfl) (by omega) (by omega)).mpr c_249
              refine lv_lload hx hb dJ22_pow_252 (lv_at hl 1 rfl) ?_
              refine lv_lload hx hb dJ22_pow_254 (lv_at hl 1 rfl) ?_
              refine lv_lmul hx hb dJ22_pow_256 ?_
              refine g_topl (v := lN (B0 * B0)) (ai_mulL (a := B0) (b := B0) (rfl) (rfl)) ?_
              refine lv_lstore hx hb dJ22_pow_257 hl (by decide) rfl (fun ls hl => ?_)
              have hl : lv_has ls 16 [(13, .long (lN (B0 * B0))), (15, .int (nI (ex / 2))), (11, .long (lN R0)), (10, .int 1), (8, .long (lN (3 * n0))), (7, .int (nI 3)), (6, .int (nI (0 * n0))), (4, .long (lN (0 * n0))), (3, .int (nI 0)), (2, .ref (k 25)), (0, .ref (k 25)), (1, .int (nI n0))] := hl
              refine lv_goto (tgt := 222) hx hb dJ22_pow_259 (by decide) ?_
              exact ih_loopA R0 (B0 * B0) (ex / 2) (by rw [← hR]; exact pw_even (by omega)) (by omega) (by omega) H_9 _ hS hO5 hM5 ls (lv_sub hl [1, 0, 2, 3, 4, 5, 6, 7, 8, 9, 10, 11] rfl)
          · skip
            have c_232 := (ai_eq (a := (ex % 2)) (b := 1) (rfl) (rfl) (by omega) (by omega)).mp c_232
            refine lv_lload hx hb dJ22_pow_235 (lv_at hl 2 rfl) ?_
            refine lv_lload hx hb dJ22_pow_237 (lv_at hl 1 rfl) ?_
            refine lv_lmul hx hb dJ22_pow_239 ?_
            refine g_topl (v := lN (R0 * B0)) (ai_mulL (a := R0) (b := B0) (rfl) (rfl)) ?_
            refine lv_lstore hx hb dJ22_pow_240 hl (by decide) rfl (fun ls hl => ?_)
            have hl : lv_has ls 16 [(11, .long (lN (R0 * B0))), (15, .int (nI ex)), (13, .long (lN B0)), (10, .int 1), (8, .long (lN (3 * n0))), (7, .int (nI 3)), (6, .int (nI (0 * n0))), (4, .long (lN (0 * n0))), (3, .int (nI 0)), (2, .ref (k 25)), (0, .ref (k 25)), (1, .int (nI n0))] := hl
            refine lv_iload hx hb dJ22_pow_242 (lv_at hl 1 rfl) ?_
            refine lv_iconst (v := 1) hx hb dJ22_pow_244 (by decide) ?_
            refine lv_iushr hx hb dJ22_pow_245 rfl ?_
            refine g_topi (v := nI (ex / 2)) (ai_ushr (a := ex) (k := 1) (rfl) (rfl) (by omega) (by omega)) ?_
            refine lv_dup hx hb dJ22_pow_246 rfl ?_
            refine lv_istore hx hb dJ22_pow_247 hl (by decide) rfl (fun ls hl => ?_)
            have hl : lv_has ls 16 [(15, .int (nI (ex / 2))), (11, .long (lN (R0 * B0))), (13, .long (lN B0)), (10, .int 1), (8, .long (lN (3 * n0))), (7, .int (nI 3)), (6, .int (nI (0 * n0))), (4, .long (lN (0 * n0))), (3, .int (nI 0)), (2, .ref (k 25)), (0, .ref (k 25)), (1, .int (nI n0))] := hl
            refine lv_if_eq (tgt := 222) hx hb dJ22_pow_249 (by decide) (fun c_249 => ?_) (fun c_249 => ?_)
            · skip
              have c_249 := (ai_eq (a := (ex / 2)) (b := 0) (rfl) (rfl) (by omega) (by omega)).mp c_249
              exact ih_loopA (R0 * B0) B0 (ex / 2) (by rw [show ex / 2 = 0 by omega, Nat.pow_zero, Nat.mul_one, ← hR, show ex = 1 by omega, Nat.pow_one]) (by omega) (by omega) H_9 _ hS hO5 hM5 ls (lv_sub hl [0, 2, 1, 3, 4, 5, 6, 7, 8, 9, 10, 11] rfl)
            · skip
              have c_249 := mt (ai_eq (a := (ex / 2)) (b := 0) (rfl) (rfl) (by omega) (by omega)).mpr c_249
              refine lv_lload hx hb dJ22_pow_252 (lv_at hl 2 rfl) ?_
              refine lv_lload hx hb dJ22_pow_254 (lv_at hl 2 rfl) ?_
              refine lv_lmul hx hb dJ22_pow_256 ?_
              refine g_topl (v := lN (B0 * B0)) (ai_mulL (a := B0) (b := B0) (rfl) (rfl)) ?_
              refine lv_lstore hx hb dJ22_pow_257 hl (by decide) rfl (fun ls hl => ?_)
              have hl : lv_has ls 16 [(13, .long (lN (B0 * B0))), (15, .int (nI (ex / 2))), (11, .long (lN (R0 * B0))), (10, .int 1), (8, .long (lN (3 * n0))), (7, .int (nI 3)), (6, .int (nI (0 * n0))), (4, .long (lN (0 * n0))), (3, .int (nI 0)), (2, .ref (k 25)), (0, .ref (k 25)), (1, .int (nI n0))] := hl
              refine lv_goto (tgt := 222) hx hb dJ22_pow_259 (by decide) ?_
              exact ih_loopA (R0 * B0) (B0 * B0) (ex / 2) (by rw [← hR]; exact pw_odd c_232) (by omega) (by omega) H_9 _ hS hO5 hM5 ls (lv_sub hl [1, 0, 2, 3, 4, 5, 6, 7, 8, 9, 10, 11] rfl)
    exact loopA _ 1 5 n0 (by rw [Nat.one_mul]) hn0 (Nat.lt_succ_self _) H0 _ hS hO5 hM5 ls (lv_sub hl [0, 1, 2, 3, 4, 5, 6, 7, 8, 9, 10, 11] rfl)
