/-! ## walks (written by tools) -/
set_option maxRecDepth 100000
def dkwJ12_clamp_2 : List UInt8 := [184, 0, 199, 136, 172]
abbrev dktJ12_clamp_2 : List UInt8 := dkwJ12_clamp_2 ++ []
def dkwJ12_clamp_1 : List UInt8 := [182, 0, 188, 29, 182, 0, 182, 182, 0, 191, 183, 0, 195, 191, 29, 133, 30, 28, 133, 184, 0, 196]
abbrev dktJ12_clamp_1 : List UInt8 := dkwJ12_clamp_1 ++ dktJ12_clamp_2
def dkwJ12_clamp_0 : List UInt8 := [28, 29, 164, 0, 34, 187, 0, 177, 89, 187, 0, 179, 89, 183, 0, 181, 28, 182, 0, 182, 18, 186]
abbrev dktJ12_clamp_0 : List UInt8 := dkwJ12_clamp_0 ++ dktJ12_clamp_1
theorem dksJ12_clamp_0 : cJ12_clamp.data.toList.drop 0 = dktJ12_clamp_0 := by decide +kernel
theorem dksJ12_clamp_1 : cJ12_clamp.data.toList.drop 22 = dktJ12_clamp_1 := dk_seg dksJ12_clamp_0 22 rfl rfl
theorem dksJ12_clamp_2 : cJ12_clamp.data.toList.drop 44 = dktJ12_clamp_2 := dk_seg dksJ12_clamp_1 22 rfl rfl
theorem dJ12_clamp_0 : decode cJ12_clamp 0 = .ok (.iload_n 2, 1) := dk_28 (dk_at dksJ12_clamp_0 0 rfl rfl)
theorem dJ12_clamp_1 : decode cJ12_clamp 1 = .ok (.iload_n 3, 1) := dk_29 (dk_at dksJ12_clamp_0 1 rfl rfl)
theorem dJ12_clamp_2 : decode cJ12_clamp 2 = .ok (.if_icmp .le 34, 3) := dk_164 0 34 (dk_at dksJ12_clamp_0 2 rfl rfl)
theorem dJ12_clamp_5 : decode cJ12_clamp 5 = .ok (.new 177, 3) := dk_187 0 177 (dk_at dksJ12_clamp_0 5 rfl rfl)
theorem dJ12_clamp_8 : decode cJ12_clamp 8 = .ok (.dup, 1) := dk_89 (dk_at dksJ12_clamp_0 8 rfl rfl)
theorem dJ12_clamp_9 : decode cJ12_clamp 9 = .ok (.new 179, 3) := dk_187 0 179 (dk_at dksJ12_clamp_0 9 rfl rfl)
theorem dJ12_clamp_12 : decode cJ12_clamp 12 = .ok (.dup, 1) := dk_89 (dk_at dksJ12_clamp_0 12 rfl rfl)
theorem dJ12_clamp_13 : decode cJ12_clamp 13 = .ok (.invokespecial 181, 3) := dk_183 0 181 (dk_at dksJ12_clamp_0 13 rfl rfl)
theorem dJ12_clamp_16 : decode cJ12_clamp 16 = .ok (.iload_n 2, 1) := dk_28 (dk_at dksJ12_clamp_0 16 rfl rfl)
theorem dJ12_clamp_17 : decode cJ12_clamp 17 = .ok (.invokevirtual 182, 3) := dk_182 0 182 (dk_at dksJ12_clamp_0 17 rfl rfl)
theorem dJ12_clamp_20 : decode cJ12_clamp 20 = .ok (.ldc 186, 2) := dk_18 186 (dk_at dksJ12_clamp_0 20 rfl rfl)
theorem dJ12_clamp_22 : decode cJ12_clamp 22 = .ok (.invokevirtual 188, 3) := dk_182 0 188 (dk_at dksJ12_clamp_1 0 rfl rfl)
theorem dJ12_clamp_25 : decode cJ12_clamp 25 = .ok (.iload_n 3, 1) := dk_29 (dk_at dksJ12_clamp_1 3 rfl rfl)
theorem dJ12_clamp_26 : decode cJ12_clamp 26 = .ok (.invokevirtual 182, 3) := dk_182 0 182 (dk_at dksJ12_clamp_1 4 rfl rfl)
theorem dJ12_clamp_29 : decode cJ12_clamp 29 = .ok (.invokevirtual 191, 3) := dk_182 0 191 (dk_at dksJ12_clamp_1 7 rfl rfl)
theorem dJ12_clamp_32 : decode cJ12_clamp 32 = .ok (.invokespecial 195, 3) := dk_183 0 195 (dk_at dksJ12_clamp_1 10 rfl rfl)
theorem dJ12_clamp_35 : decode cJ12_clamp 35 = .ok (.athrow, 1) := dk_191 (dk_at dksJ12_clamp_1 13 rfl rfl)
theorem dJ12_clamp_36 : decode cJ12_clamp 36 = .ok (.iload_n 3, 1) := dk_29 (dk_at dksJ12_clamp_1 14 rfl rfl)
theorem dJ12_clamp_37 : decode cJ12_clamp 37 = .ok (.i2l, 1) := dk_133 (dk_at dksJ12_clamp_1 15 rfl rfl)
theorem dJ12_clamp_38 : decode cJ12_clamp 38 = .ok (.lload_n 0, 1) := dk_30 (dk_at dksJ12_clamp_1 16 rfl rfl)
theorem dJ12_clamp_39 : decode cJ12_clamp 39 = .ok (.iload_n 2, 1) := dk_28 (dk_at dksJ12_clamp_1 17 rfl rfl)
theorem dJ12_clamp_40 : decode cJ12_clamp 40 = .ok (.i2l, 1) := dk_133 (dk_at dksJ12_clamp_1 18 rfl rfl)
theorem dJ12_clamp_41 : decode cJ12_clamp 41 = .ok (.invokestatic 196, 3) := dk_184 0 196 (dk_at dksJ12_clamp_1 19 rfl rfl)
theorem dJ12_clamp_44 : decode cJ12_clamp 44 = .ok (.invokestatic 199, 3) := dk_184 0 199 (dk_at dksJ12_clamp_2 0 rfl rfl)
theorem dJ12_clamp_47 : decode cJ12_clamp 47 = .ok (.l2i, 1) := dk_136 (dk_at dksJ12_clamp_2 3 rfl rfl)
theorem dJ12_clamp_48 : decode cJ12_clamp 48 = .ok (.ireturn, 1) := dk_172 (dk_at dksJ12_clamp_2 4 rfl rfl)
def dkwJ15_indexOf_2_5 : List UInt8 := [167, 255, 154, 2, 172]
abbrev dktJ15_indexOf_2_5 : List UInt8 := dkwJ15_indexOf_2_5 ++ []
def dkwJ15_indexOf_2_4 : List UInt8 := [132, 8, 1, 132, 10, 1, 167, 255, 232, 21, 8, 21, 9, 160, 0, 6, 21, 7, 172, 132, 7, 1]
abbrev dktJ15_indexOf_2_4 : List UInt8 := dkwJ15_indexOf_2_4 ++ dktJ15_indexOf_2_5
def dkwJ15_indexOf_2_3 : List UInt8 := [100, 54, 9, 4, 54, 10, 21, 8, 21, 9, 162, 0, 23, 42, 21, 8, 51, 44, 21, 10, 51, 160, 0, 12]
abbrev dktJ15_indexOf_2_3 : List UInt8 := dkwJ15_indexOf_2_3 ++ dktJ15_indexOf_2_4
def dkwJ15_indexOf_2_2 : List UInt8 := [159, 0, 6, 167, 255, 237, 21, 7, 21, 6, 163, 0, 57, 21, 7, 4, 96, 54, 8, 21, 8, 29, 96, 4]
abbrev dktJ15_indexOf_2_2 : List UInt8 := dkwJ15_indexOf_2_2 ++ dktJ15_indexOf_2_3
def dkwJ15_indexOf_2_1 : List UInt8 := [51, 21, 5, 159, 0, 25, 132, 7, 1, 21, 7, 21, 6, 163, 0, 15, 42, 21, 7, 51, 21, 5]
abbrev dktJ15_indexOf_2_1 : List UInt8 := dkwJ15_indexOf_2_1 ++ dktJ15_indexOf_2_2
def dkwJ15_indexOf_2_0 : List UInt8 := [44, 3, 51, 54, 5, 27, 29, 100, 54, 6, 21, 4, 54, 7, 21, 7, 21, 6, 163, 0, 101, 42, 21, 7]
abbrev dktJ15_indexOf_2_0 : List UInt8 := dkwJ15_indexOf_2_0 ++ dktJ15_indexOf_2_1
theorem dksJ15_indexOf_2_0 : cJ15_indexOf_2.data.toList.drop 0 = dktJ15_indexOf_2_0 := by decide +kernel
theorem dksJ15_indexOf_2_1 : cJ15_indexOf_2.data.toList.drop 24 = dktJ15_indexOf_2_1 := dk_seg dksJ15_indexOf_2_0 24 rfl rfl
theorem dksJ15_indexOf_2_2 : cJ15_indexOf_2.data.toList.drop 46 = dktJ15_indexOf_2_2 := dk_seg dksJ15_indexOf_2_1 22 rfl rfl
theorem dksJ15_indexOf_2_3 : cJ15_indexOf_2.data.toList.drop 70 = dktJ15_indexOf_2_3 := dk_seg dksJ15_indexOf_2_2 24 rfl rfl
theorem dksJ15_indexOf_2_4 : cJ15_indexOf_2.data.toList.drop 94 = dktJ15_indexOf_2_4 := dk_seg dksJ15_indexOf_2_3 24 rfl rfl
theorem dksJ15_indexOf_2_5 : cJ15_indexOf_2.data.toList.drop 116 = dktJ15_indexOf_2_5 := dk_seg dksJ15_indexOf_2_4 22 rfl rfl
theorem dJ15_indexOf_2_0 : decode cJ15_indexOf_2 0 = .ok (.aload_n 2, 1) := dk_44 (dk_at dksJ15_indexOf_2_0 0 rfl rfl)
theorem dJ15_indexOf_2_1 : decode cJ15_indexOf_2 1 = .ok (.iconst 0, 1) := dk_3 (dk_at dksJ15_indexOf_2_0 1 rfl rfl)
theorem dJ15_indexOf_2_2 : decode cJ15_indexOf_2 2 = .ok (.baload, 1) := dk_51 (dk_at dksJ15_indexOf_2_0 2 rfl rfl)
theorem dJ15_indexOf_2_3 : decode cJ15_indexOf_2 3 = .ok (.istore 5, 2) := dk_54 5 (dk_at dksJ15_indexOf_2_0 3 rfl rfl)
theorem dJ15_indexOf_2_5 : decode cJ15_indexOf_2 5 = .ok (.iload_n 1, 1) := dk_27 (dk_at dksJ15_indexOf_2_0 5 rfl rfl)
theorem dJ15_indexOf_2_6 : decode cJ15_indexOf_2 6 = .ok (.iload_n 3, 1) := dk_29 (dk_at dksJ15_indexOf_2_0 6 rfl rfl)
theorem dJ15_indexOf_2_7 : decode cJ15_indexOf_2 7 = .ok (.isub, 1) := dk_100 (dk_at dksJ15_indexOf_2_0 7 rfl rfl)
theorem dJ15_indexOf_2_8 : decode cJ15_indexOf_2 8 = .ok (.istore 6, 2) := dk_54 6 (dk_at dksJ15_indexOf_2_0 8 rfl rfl)
theorem dJ15_indexOf_2_10 : decode cJ15_indexOf_2 10 = .ok (.iload 4, 2) := dk_21 4 (dk_at dksJ15_indexOf_2_0 10 rfl rfl)
theorem dJ15_indexOf_2_12 : decode cJ15_indexOf_2 12 = .ok (.istore 7, 2) := dk_54 7 (dk_at dksJ15_indexOf_2_0 12 rfl rfl)
theorem dJ15_indexOf_2_14 : decode cJ15_indexOf_2 14 = .ok (.iload 7, 2) := dk_21 7 (dk_at dksJ15_indexOf_2_0 14 rfl rfl)
theorem dJ15_indexOf_2_16 : decode cJ15_indexOf_2 16 = .ok (.iload 6, 2) := dk_21 6 (dk_at dksJ15_indexOf_2_0 16 rfl rfl)
theorem dJ15_indexOf_2_18 : decode cJ15_indexOf_2 18 = .ok (.if_icmp .gt 101, 3) := dk_163 0 101 (dk_at dksJ15_indexOf_2_0 18 rfl rfl)
theorem dJ15_indexOf_2_21 : decode cJ15_indexOf_2 21 = .ok (.aload_n 0, 1) := dk_42 (dk_at dksJ15_indexOf_2_0 21 rfl rfl)
theorem dJ15_indexOf_2_22 : decode cJ15_indexOf_2 22 = .ok (.iload 7, 2) := dk_21 7 (dk_at dksJ15_indexOf_2_0 22 rfl rfl)
theorem dJ15_indexOf_2_24 : decode cJ15_indexOf_2 24 = .ok (.baload, 1) := dk_51 (dk_at dksJ15_indexOf_2_1 0 rfl rfl)
theorem dJ15_indexOf_2_25 : decode cJ15_indexOf_2 25 = .ok (.iload 5, 2) := dk_21 5 (dk_at dksJ15_indexOf_2_1 1 rfl rfl)
theorem dJ15_indexOf_2_27 : decode cJ15_indexOf_2 27 = .ok (.if_icmp .eq 25, 3) := dk_159 0 25 (dk_at dksJ15_indexOf_2_1 3 rfl rfl)
theorem dJ15_indexOf_2_30 : decode cJ15_indexOf_2 30 = .ok (.iinc 7 1, 3) := dk_132 7 1 (dk_at dksJ15_indexOf_2_1 6 rfl rfl)
theorem dJ15_indexOf_2_33 : decode cJ15_indexOf_2 33 = .ok (.iload 7, 2) := dk_21 7 (dk_at dksJ15_indexOf_2_1 9 rfl rfl)
theorem dJ15_indexOf_2_35 : decode cJ15_indexOf_2 35 = .ok (.iload 6, 2) := dk_21 6 (dk_at dksJ15_indexOf_2_1 11 rfl rfl)
theorem dJ15_indexOf_2_37 : decode cJ15_indexOf_2 37 = .ok (.if_icmp .gt 15, 3) := dk_163 0 15 (dk_at dksJ15_indexOf_2_1 13 rfl rfl)
theorem dJ15_indexOf_2_40 : decode cJ15_indexOf_2 40 = .ok (.aload_n 0, 1) := dk_42 (dk_at dksJ15_indexOf_2_1 16 rfl rfl)
theorem dJ15_indexOf_2_41 : decode cJ15_indexOf_2 41 = .ok (.iload 7, 2) := dk_21 7 (dk_at dksJ15_indexOf_2_1 17 rfl rfl)
theorem dJ15_indexOf_2_43 : decode cJ15_indexOf_2 43 = .ok (.baload, 1) := dk_51 (dk_at dksJ15_indexOf_2_1 19 rfl rfl)
theorem dJ15_indexOf_2_44 : decode cJ15_indexOf_2 44 = .ok (.iload 5, 2) := dk_21 5 (dk_at dksJ15_indexOf_2_1 20 rfl rfl)
theorem dJ15_indexOf_2_46 : decode cJ15_indexOf_2 46 = .ok (.if_icmp .eq 6, 3) := dk_159 0 6 (dk_at dksJ15_indexOf_2_2 0 rfl rfl)
theorem dJ15_indexOf_2_49 : decode cJ15_indexOf_2 49 = .ok (.goto (-19), 3) := dk_167 255 237 (dk_at dksJ15_indexOf_2_2 3 rfl rfl)
theorem dJ15_indexOf_2_52 : decode cJ15_indexOf_2 52 = .ok (.iload 7, 2) := dk_21 7 (dk_at dksJ15_indexOf_2_2 6 rfl rfl)
theorem dJ15_indexOf_2_54 : decode cJ15_indexOf_2 54 = .ok (.iload 6, 2) := dk_21 6 (dk_at dksJ15_indexOf_2_2 8 rfl rfl)
theorem dJ15_indexOf_2_56 : decode cJ15_indexOf_2 56 = .ok (.if_icmp .gt 57, 3) := dk_163 0 57 (dk_at dksJ15_indexOf_2_2 10 rfl rfl)
theorem dJ15_indexOf_2_59 : decode cJ15_indexOf_2 59 = .ok (.iload 7, 2) := dk_21 7 (dk_at dksJ15_indexOf_2_2 13 rfl rfl)
theorem dJ15_indexOf_2_61 : decode cJ15_indexOf_2 61 = .ok (.iconst 1, 1) := dk_4 (dk_at dksJ15_indexOf_2_2 15 rfl rfl)
theorem dJ15_indexOf_2_62 : decode cJ15_indexOf_2 62 = .ok (.iadd, 1) := dk_96 (dk_at dksJ15_indexOf_2_2 16 rfl rfl)
theorem dJ15_indexOf_2_63 : decode cJ15_indexOf_2 63 = .ok (.istore 8, 2) := dk_54 8 (dk_at dksJ15_indexOf_2_2 17 rfl rfl)
theorem dJ15_indexOf_2_65 : decode cJ15_indexOf_2 65 = .ok (.iload 8, 2) := dk_21 8 (dk_at dksJ15_indexOf_2_2 19 rfl rfl)
theorem dJ15_indexOf_2_67 : decode cJ15_indexOf_2 67 = .ok (.iload_n 3, 1) := dk_29 (dk_at dksJ15_indexOf_2_2 21 rfl rfl)
theorem dJ15_indexOf_2_68 : decode cJ15_indexOf_2 68 = .ok (.iadd, 1) := dk_96 (dk_at dksJ15_indexOf_2_2 22 rfl rfl)
theorem dJ15_indexOf_2_69 : decode cJ15_indexOf_2 69 = .ok (.iconst 1, 1) := dk_4 (dk_at dksJ15_indexOf_2_2 23 rfl rfl)
theorem dJ15_indexOf_2_70 : decode cJ15_indexOf_2 70 = .ok (.isub, 1) := dk_100 (dk_at dksJ15_indexOf_2_3 0 rfl rfl)
theorem dJ15_indexOf_2_71 : decode cJ15_indexOf_2 71 = .ok (.istore 9, 2) := dk_54 9 (dk_at dksJ15_indexOf_2_3 1 rfl rfl)
theorem dJ15_indexOf_2_73 : decode cJ15_indexOf_2 73 = .ok (.iconst 1, 1) := dk_4 (dk_at dksJ15_indexOf_2_3 3 rfl rfl)
theorem dJ15_indexOf_2_74 : decode cJ15_indexOf_2 74 = .ok (.istore 10, 2) := dk_54 10 (dk_at dksJ15_indexOf_2_3 4 rfl rfl)
theorem dJ15_indexOf_2_76 : decode cJ15_indexOf_2 76 = .ok (.iload 8, 2) := dk_21 8 (dk_at dksJ15_indexOf_2_3 6 rfl rfl)
theorem dJ15_indexOf_2_78 : decode cJ15_indexOf_2 78 = .ok (.iload 9, 2) := dk_21 9 (dk_at dksJ15_indexOf_2_3 8 rfl rfl)
theorem dJ15_indexOf_2_80 : decode cJ15_indexOf_2 80 = .ok (.if_icmp .ge 23, 3) := dk_162 0 23 (dk_at dksJ15_indexOf_2_3 10 rfl rfl)
theorem dJ15_indexOf_2_83 : decode cJ15_indexOf_2 83 = .ok (.aload_n 0, 1) := dk_42 (dk_at dksJ15_indexOf_2_3 13 rfl rfl)
theorem dJ15_indexOf_2_84 : decode cJ15_indexOf_2 84 = .ok (.iload 8, 2) := dk_21 8 (dk_at dksJ15_indexOf_2_3 14 rfl rfl)
theorem dJ15_indexOf_2_86 : decode cJ15_indexOf_2 86 = .ok (.baload, 1) := dk_51 (dk_at dksJ15_indexOf_2_3 16 rfl rfl)
theorem dJ15_indexOf_2_87 : decode cJ15_indexOf_2 87 = .ok (.aload_n 2, 1) := dk_44 (dk_at dksJ15_indexOf_2_3 17 rfl rfl)
theorem dJ15_indexOf_2_88 : decode cJ15_indexOf_2 88 = .ok (.iload 10, 2) := dk_21 10 (dk_at dksJ15_indexOf_2_3 18 rfl rfl)
theorem dJ15_indexOf_2_90 : decode cJ15_indexOf_2 90 = .ok (.baload, 1) := dk_51 (dk_at dksJ15_indexOf_2_3 20 rfl rfl)
theorem dJ15_indexOf_2_91 : decode cJ15_indexOf_2 91 = .ok (.if_icmp .ne 12, 3) := dk_160 0 12 (dk_at dksJ15_indexOf_2_3 21 rfl rfl)
theorem dJ15_indexOf_2_94 : decode cJ15_indexOf_2 94 = .ok (.iinc 8 1, 3) := dk_132 8 1 (dk_at dksJ15_indexOf_2_4 0 rfl rfl)
theorem dJ15_indexOf_2_97 : decode cJ15_indexOf_2 97 = .ok (.iinc 10 1, 3) := dk_132 10 1 (dk_at dksJ15_indexOf_2_4 3 rfl rfl)
theorem dJ15_indexOf_2_100 : decode cJ15_indexOf_2 100 = .ok (.goto (-24), 3) := dk_167 255 232 (dk_at dksJ15_indexOf_2_4 6 rfl rfl)
theorem dJ15_indexOf_2_103 : decode cJ15_indexOf_2 103 = .ok (.iload 8, 2) := dk_21 8 (dk_at dksJ15_indexOf_2_4 9 rfl rfl)
theorem dJ15_indexOf_2_105 : decode cJ15_indexOf_2 105 = .ok (.iload 9, 2) := dk_21 9 (dk_at dksJ15_indexOf_2_4 11 rfl rfl)
theorem dJ15_indexOf_2_107 : decode cJ15_indexOf_2 107 = .ok (.if_icmp .ne 6, 3) := dk_160 0 6 (dk_at dksJ15_indexOf_2_4 13 rfl rfl)
theorem dJ15_indexOf_2_110 : decode cJ15_indexOf_2 110 = .ok (.iload 7, 2) := dk_21 7 (dk_at dksJ15_indexOf_2_4 16 rfl rfl)
theorem dJ15_indexOf_2_112 : decode cJ15_indexOf_2 112 = .ok (.ireturn, 1) := dk_172 (dk_at dksJ15_indexOf_2_4 18 rfl rfl)
theorem dJ15_indexOf_2_113 : decode cJ15_indexOf_2 113 = .ok (.iinc 7 1, 3) := dk_132 7 1 (dk_at dksJ15_indexOf_2_4 19 rfl rfl)
theorem dJ15_indexOf_2_116 : decode cJ15_indexOf_2 116 = .ok (.goto (-102), 3) := dk_167 255 154 (dk_at dksJ15_indexOf_2_5 0 rfl rfl)
theorem dJ15_indexOf_2_119 : decode cJ15_indexOf_2 119 = .ok (.iconst (-1), 1) := dk_2 (dk_at dksJ15_indexOf_2_5 3 rfl rfl)
theorem dJ15_indexOf_2_120 : decode cJ15_indexOf_2 120 = .ok (.ireturn, 1) := dk_172 (dk_at dksJ15_indexOf_2_5 4 rfl rfl)
def dkwJ5_indexOf_3_4 : List UInt8 := [25, 6, 21, 5, 21, 4, 184, 2, 156, 172]
abbrev dktJ5_indexOf_3_4 : List UInt8 := dkwJ5_indexOf_3_4 ++ []
def dkwJ5_indexOf_3_3 : List UInt8 := [167, 0, 14, 42, 28, 25, 6, 21, 5, 21, 4, 184, 2, 155, 172, 27, 154, 0, 5, 2, 172, 42, 28]
abbrev dktJ5_indexOf_3_3 : List UInt8 := dkwJ5_indexOf_3_3 ++ dktJ5_indexOf_3_4
def dkwJ5_indexOf_3_2 : List UInt8 := [54, 7, 27, 21, 7, 160, 0, 33, 27, 154, 0, 17, 42, 28, 25, 6, 21, 5, 21, 4, 184, 2, 153]
abbrev dktJ5_indexOf_3_2 : List UInt8 := dkwJ5_indexOf_3_2 ++ dktJ5_indexOf_3_3
def dkwJ5_indexOf_3_1 : List UInt8 := [164, 0, 5, 2, 172, 21, 5, 154, 0, 6, 21, 4, 172, 45, 180, 0, 9, 58, 6, 45, 182, 1, 79]
abbrev dktJ5_indexOf_3_1 : List UInt8 := dkwJ5_indexOf_3_1 ++ dktJ5_indexOf_3_2
def dkwJ5_indexOf_3_0 : List UInt8 := [21, 4, 133, 3, 28, 184, 2, 147, 54, 4, 45, 182, 1, 249, 54, 5, 21, 5, 28, 21, 4, 100]
abbrev dktJ5_indexOf_3_0 : List UInt8 := dkwJ5_indexOf_3_0 ++ dktJ5_indexOf_3_1
theorem dksJ5_indexOf_3_0 : cJ5_indexOf_3.data.toList.drop 0 = dktJ5_indexOf_3_0 := by decide +kernel
theorem dksJ5_indexOf_3_1 : cJ5_indexOf_3.data.toList.drop 22 = dktJ5_indexOf_3_1 := dk_seg dksJ5_indexOf_3_0 22 rfl rfl
theorem dksJ5_indexOf_3_2 : cJ5_indexOf_3.data.toList.drop 45 = dktJ5_indexOf_3_2 := dk_seg dksJ5_indexOf_3_1 23 rfl rfl
theorem dksJ5_indexOf_3_3 : cJ5_indexOf_3.data.toList.drop 68 = dktJ5_indexOf_3_3 := dk_seg dksJ5_indexOf_3_2 23 rfl rfl
theorem dksJ5_indexOf_3_4 : cJ5_indexOf_3.data.toList.drop 91 = dktJ5_indexOf_3_4 := dk_seg dksJ5_indexOf_3_3 23 rfl rfl
theorem dJ5_indexOf_3_0 : decode cJ5_indexOf_3 0 = .ok (.iload 4, 2) := dk_21 4 (dk_at dksJ5_indexOf_3_0 0 rfl rfl)
theorem dJ5_indexOf_3_2 : decode cJ5_indexOf_3 2 = .ok (.i2l, 1) := dk_133 (dk_at dksJ5_indexOf_3_0 2 rfl rfl)
theorem dJ5_indexOf_3_3 : decode cJ5_indexOf_3 3 = .ok (.iconst 0, 1) := dk_3 (dk_at dksJ5_indexOf_3_0 3 rfl rfl)
theorem dJ5_indexOf_3_4 : decode cJ5_indexOf_3 4 = .ok (.iload_n 2, 1) := dk_28 (dk_at dksJ5_indexOf_3_0 4 rfl rfl)
theorem dJ5_indexOf_3_5 : decode cJ5_indexOf_3 5 = .ok (.invokestatic 659, 3) := dk_184 2 147 (dk_at dksJ5_indexOf_3_0 5 rfl rfl)
theorem dJ5_indexOf_3_8 : decode cJ5_indexOf_3 8 = .ok (.istore 4, 2) := dk_54 4 (dk_at dksJ5_indexOf_3_0 8 rfl rfl)
theorem dJ5_indexOf_3_10 : decode cJ5_indexOf_3 10 = .ok (.aload_n 3, 1) := dk_45 (dk_at dksJ5_indexOf_3_0 10 rfl rfl)
theorem dJ5_indexOf_3_11 : decode cJ5_indexOf_3 11 = .ok (.invokevirtual 505, 3) := dk_182 1 249 (dk_at dksJ5_indexOf_3_0 11 rfl rfl)
theorem dJ5_indexOf_3_14 : decode cJ5_indexOf_3 14 = .ok (.istore 5, 2) := dk_54 5 (dk_at dksJ5_indexOf_3_0 14 rfl rfl)
theorem dJ5_indexOf_3_16 : decode cJ5_indexOf_3 16 = .ok (.iload 5, 2) := dk_21 5 (dk_at dksJ5_indexOf_3_0 16 rfl rfl)
theorem dJ5_indexOf_3_18 : decode cJ5_indexOf_3 18 = .ok (.iload_n 2, 1) := dk_28 (dk_at dksJ5_indexOf_3_0 18 rfl rfl)
theorem dJ5_indexOf_3_19 : decode cJ5_indexOf_3 19 = .ok (.iload 4, 2) := dk_21 4 (dk_at dksJ5_indexOf_3_0 19 rfl rfl)
theorem dJ5_indexOf_3_21 : decode cJ5_indexOf_3 21 = .ok (.isub, 1) := dk_100 (dk_at dksJ5_indexOf_3_0 21 rfl rfl)
theorem dJ5_indexOf_3_22 : decode cJ5_indexOf_3 22 = .ok (.if_icmp .le 5, 3) := dk_164 0 5 (dk_at dksJ5_indexOf_3_1 0 rfl rfl)
theorem dJ5_indexOf_3_25 : decode cJ5_indexOf_3 25 = .ok (.iconst (-1), 1) := dk_2 (dk_at dksJ5_indexOf_3_1 3 rfl rfl)
theorem dJ5_indexOf_3_26 : decode cJ5_indexOf_3 26 = .ok (.ireturn, 1) := dk_172 (dk_at dksJ5_indexOf_3_1 4 rfl rfl)
theorem dJ5_indexOf_3_27 : decode cJ5_indexOf_3 27 = .ok (.iload 5, 2) := dk_21 5 (dk_at dksJ5_indexOf_3_1 5 rfl rfl)
theorem dJ5_indexOf_3_29 : decode cJ5_indexOf_3 29 = .ok (.ifCond .ne 6, 3) := dk_154 0 6 (dk_at dksJ5_indexOf_3_1 7 rfl rfl)
theorem dJ5_indexOf_3_32 : decode cJ5_indexOf_3 32 = .ok (.iload 4, 2) := dk_21 4 (dk_at dksJ5_indexOf_3_1 10 rfl rfl)
theorem dJ5_indexOf_3_34 : decode cJ5_indexOf_3 34 = .ok (.ireturn, 1) := dk_172 (dk_at dksJ5_indexOf_3_1 12 rfl rfl)
theorem dJ5_indexOf_3_35 : decode cJ5_indexOf_3 35 = .ok (.aload_n 3, 1) := dk_45 (dk_at dksJ5_indexOf_3_1 13 rfl rfl)
theorem dJ5_indexOf_3_36 : decode cJ5_indexOf_3 36 = .ok (.getfield 9, 3) := dk_180 0 9 (dk_at dksJ5_indexOf_3_1 14 rfl rfl)
theorem dJ5_indexOf_3_39 : decode cJ5_indexOf_3 39 = .ok (.astore 6, 2) := dk_58 6 (dk_at dksJ5_indexOf_3_1 17 rfl rfl)
theorem dJ5_indexOf_3_41 : decode cJ5_indexOf_3 41 = .ok (.aload_n 3, 1) := dk_45 (dk_at dksJ5_indexOf_3_1 19 rfl rfl)
theorem dJ5_indexOf_3_42 : decode cJ5_indexOf_3 42 = .ok (.invokevirtual 335, 3) := dk_182 1 79 (dk_at dksJ5_indexOf_3_1 20 rfl rfl)
theorem dJ5_indexOf_3_45 : decode cJ5_indexOf_3 45 = .ok (.istore 7, 2) := dk_54 7 (dk_at dksJ5_indexOf_3_2 0 rfl rfl)
theorem dJ5_indexOf_3_47 : decode cJ5_indexOf_3 47 = .ok (.iload_n 1, 1) := dk_27 (dk_at dksJ5_indexOf_3_2 2 rfl rfl)
theorem dJ5_indexOf_3_48 : decode cJ5_indexOf_3 48 = .ok (.iload 7, 2) := dk_21 7 (dk_at dksJ5_indexOf_3_2 3 rfl rfl)
theorem dJ5_indexOf_3_50 : decode cJ5_indexOf_3 50 = .ok (.if_icmp .ne 33, 3) := dk_160 0 33 (dk_at dksJ5_indexOf_3_2 5 rfl rfl)
theorem dJ5_indexOf_3_53 : decode cJ5_indexOf_3 53 = .ok (.iload_n 1, 1) := dk_27 (dk_at dksJ5_indexOf_3_2 8 rfl rfl)
theorem dJ5_indexOf_3_54 : decode cJ5_indexOf_3 54 = .ok (.ifCond .ne 17, 3) := dk_154 0 17 (dk_at dksJ5_indexOf_3_2 9 rfl rfl)
theorem dJ5_indexOf_3_57 : decode cJ5_indexOf_3 57 = .ok (.aload_n 0, 1) := dk_42 (dk_at dksJ5_indexOf_3_2 12 rfl rfl)
theorem dJ5_indexOf_3_58 : decode cJ5_indexOf_3 58 = .ok (.iload_n 2, 1) := dk_28 (dk_at dksJ5_indexOf_3_2 13 rfl rfl)
theorem dJ5_indexOf_3_59 : decode cJ5_indexOf_3 59 = .ok (.aload 6, 2) := dk_25 6 (dk_at dksJ5_indexOf_3_2 14 rfl rfl)
theorem dJ5_indexOf_3_61 : decode cJ5_indexOf_3 61 = .ok (.iload 5, 2) := dk_21 5 (dk_at dksJ5_indexOf_3_2 16 rfl rfl)
theorem dJ5_indexOf_3_63 : decode cJ5_indexOf_3 63 = .ok (.iload 4, 2) := dk_21 4 (dk_at dksJ5_indexOf_3_2 18 rfl rfl)
theorem dJ5_indexOf_3_65 : decode cJ5_indexOf_3 65 = .ok (.invokestatic 665, 3) := dk_184 2 153 (dk_at dksJ5_indexOf_3_2 20 rfl rfl)
theorem dJ5_indexOf_3_68 : decode cJ5_indexOf_3 68 = .ok (.goto 14, 3) := dk_167 0 14 (dk_at dksJ5_indexOf_3_3 0 rfl rfl)
theorem dJ5_indexOf_3_71 : decode cJ5_indexOf_3 71 = .ok (.aload_n 0, 1) := dk_42 (dk_at dksJ5_indexOf_3_3 3 rfl rfl)
theorem dJ5_indexOf_3_72 : decode cJ5_indexOf_3 72 = .ok (.iload_n 2, 1) := dk_28 (dk_at dksJ5_indexOf_3_3 4 rfl rfl)
theorem dJ5_indexOf_3_73 : decode cJ5_indexOf_3 73 = .ok (.aload 6, 2) := dk_25 6 (dk_at dksJ5_indexOf_3_3 5 rfl rfl)
theorem dJ5_indexOf_3_75 : decode cJ5_indexOf_3 75 = .ok (.iload 5, 2) := dk_21 5 (dk_at dksJ5_indexOf_3_3 7 rfl rfl)
theorem dJ5_indexOf_3_77 : decode cJ5_indexOf_3 77 = .ok (.iload 4, 2) := dk_21 4 (dk_at dksJ5_indexOf_3_3 9 rfl rfl)
theorem dJ5_indexOf_3_79 : decode cJ5_indexOf_3 79 = .ok (.invokestatic 667, 3) := dk_184 2 155 (dk_at dksJ5_indexOf_3_3 11 rfl rfl)
theorem dJ5_indexOf_3_82 : decode cJ5_indexOf_3 82 = .ok (.ireturn, 1) := dk_172 (dk_at dksJ5_indexOf_3_3 14 rfl rfl)
theorem dJ5_indexOf_3_83 : decode cJ5_indexOf_3 83 = .ok (.iload_n 1, 1) := dk_27 (dk_at dksJ5_indexOf_3_3 15 rfl rfl)
theorem dJ5_indexOf_3_84 : decode cJ5_indexOf_3 84 = .ok (.ifCond .ne 5, 3) := dk_154 0 5 (dk_at dksJ5_indexOf_3_3 16 rfl rfl)
theorem dJ5_indexOf_3_87 : decode cJ5_indexOf_3 87 = .ok (.iconst (-1), 1) := dk_2 (dk_at dksJ5_indexOf_3_3 19 rfl rfl)
theorem dJ5_indexOf_3_88 : decode cJ5_indexOf_3 88 = .ok (.ireturn, 1) := dk_172 (dk_at dksJ5_indexOf_3_3 20 rfl rfl)
theorem dJ5_indexOf_3_89 : decode cJ5_indexOf_3 89 = .ok (.aload_n 0, 1) := dk_42 (dk_at dksJ5_indexOf_3_3 21 rfl rfl)
theorem dJ5_indexOf_3_90 : decode cJ5_indexOf_3 90 = .ok (.iload_n 2, 1) := dk_28 (dk_at dksJ5_indexOf_3_3 22 rfl rfl)
theorem dJ5_indexOf_3_91 : decode cJ5_indexOf_3 91 = .ok (.aload 6, 2) := dk_25 6 (dk_at dksJ5_indexOf_3_4 0 rfl rfl)
theorem dJ5_indexOf_3_93 : decode cJ5_indexOf_3 93 = .ok (.iload 5, 2) := dk_21 5 (dk_at dksJ5_indexOf_3_4 2 rfl rfl)
theorem dJ5_indexOf_3_95 : decode cJ5_indexOf_3 95 = .ok (.iload 4, 2) := dk_21 4 (dk_at dksJ5_indexOf_3_4 4 rfl rfl)
theorem dJ5_indexOf_3_97 : decode cJ5_indexOf_3 97 = .ok (.invokestatic 668, 3) := dk_184 2 156 (dk_at dksJ5_indexOf_3_4 6 rfl rfl)
theorem dJ5_indexOf_3_100 : decode cJ5_indexOf_3 100 = .ok (.ireturn, 1) := dk_172 (dk_at dksJ5_indexOf_3_4 9 rfl rfl)
def dkwJ6_indexOf_2_0 : List UInt8 := [42, 180, 0, 15, 42, 180, 0, 22, 42, 180, 0, 79, 43, 28, 184, 1, 94, 172]
abbrev dktJ6_indexOf_2_0 : List UInt8 := dkwJ6_indexOf_2_0 ++ []
theorem dksJ6_indexOf_2_0 : cJ6_indexOf_2.data.toList.drop 0 = dktJ6_indexOf_2_0 := by decide +kernel
theorem dJ6_indexOf_2_0 : decode cJ6_indexOf_2 0 = .ok (.aload_n 0, 1) := dk_42 (dk_at dksJ6_indexOf_2_0 0 rfl rfl)
theorem dJ6_indexOf_2_1 : decode cJ6_indexOf_2 1 = .ok (.getfield 15, 3) := dk_180 0 15 (dk_at dksJ6_indexOf_2_0 1 rfl rfl)
theorem dJ6_indexOf_2_4 : decode cJ6_indexOf_2 4 = .ok (.aload_n 0, 1) := dk_42 (dk_at dksJ6_indexOf_2_0 4 rfl rfl)
theorem dJ6_indexOf_2_5 : decode cJ6_indexOf_2 5 = .ok (.getfield 22, 3) := dk_180 0 22 (dk_at dksJ6_indexOf_2_0 5 rfl rfl)
theorem dJ6_indexOf_2_8 : decode cJ6_indexOf_2 8 = .ok (.aload_n 0, 1) := dk_42 (dk_at dksJ6_indexOf_2_0 8 rfl rfl)
theorem dJ6_indexOf_2_9 : decode cJ6_indexOf_2 9 = .ok (.getfield 79, 3) := dk_180 0 79 (dk_at dksJ6_indexOf_2_0 9 rfl rfl)
theorem dJ6_indexOf_2_12 : decode cJ6_indexOf_2 12 = .ok (.aload_n 1, 1) := dk_43 (dk_at dksJ6_indexOf_2_0 12 rfl rfl)
theorem dJ6_indexOf_2_13 : decode cJ6_indexOf_2 13 = .ok (.iload_n 2, 1) := dk_28 (dk_at dksJ6_indexOf_2_0 13 rfl rfl)
theorem dJ6_indexOf_2_14 : decode cJ6_indexOf_2 14 = .ok (.invokestatic 350, 3) := dk_184 1 94 (dk_at dksJ6_indexOf_2_0 14 rfl rfl)
theorem dJ6_indexOf_2_17 : decode cJ6_indexOf_2 17 = .ok (.ireturn, 1) := dk_172 (dk_at dksJ6_indexOf_2_0 17 rfl rfl)
def dkwJ7_indexOf_2_0 : List UInt8 := [42, 43, 28, 183, 0, 119, 172]
abbrev dktJ7_indexOf_2_0 : List UInt8 := dkwJ7_indexOf_2_0 ++ []
theorem dksJ7_indexOf_2_0 : cJ7_indexOf_2.data.toList.drop 0 = dktJ7_indexOf_2_0 := by decide +kernel
theorem dJ7_indexOf_2_0 : decode cJ7_indexOf_2 0 = .ok (.aload_n 0, 1) := dk_42 (dk_at dksJ7_indexOf_2_0 0 rfl rfl)
theorem dJ7_indexOf_2_1 : decode cJ7_indexOf_2 1 = .ok (.aload_n 1, 1) := dk_43 (dk_at dksJ7_indexOf_2_0 1 rfl rfl)
theorem dJ7_indexOf_2_2 : decode cJ7_indexOf_2 2 = .ok (.iload_n 2, 1) := dk_28 (dk_at dksJ7_indexOf_2_0 2 rfl rfl)
theorem dJ7_indexOf_2_3 : decode cJ7_indexOf_2 3 = .ok (.invokespecial 119, 3) := dk_183 0 119 (dk_at dksJ7_indexOf_2_0 3 rfl rfl)
theorem dJ7_indexOf_2_6 : decode cJ7_indexOf_2 6 = .ok (.ireturn, 1) := dk_172 (dk_at dksJ7_indexOf_2_0 6 rfl rfl)
def dkwJ6_indexOf_0 : List UInt8 := [42, 43, 3, 182, 1, 90, 172]
abbrev dktJ6_indexOf_0 : List UInt8 := dkwJ6_indexOf_0 ++ []
theorem dksJ6_indexOf_0 : cJ6_indexOf.data.toList.drop 0 = dktJ6_indexOf_0 := by decide +kernel
theorem dJ6_indexOf_0 : decode cJ6_indexOf 0 = .ok (.aload_n 0, 1) := dk_42 (dk_at dksJ6_indexOf_0 0 rfl rfl)
theorem dJ6_indexOf_1 : decode cJ6_indexOf 1 = .ok (.aload_n 1, 1) := dk_43 (dk_at dksJ6_indexOf_0 1 rfl rfl)
theorem dJ6_indexOf_2 : decode cJ6_indexOf 2 = .ok (.iconst 0, 1) := dk_3 (dk_at dksJ6_indexOf_0 2 rfl rfl)
theorem dJ6_indexOf_3 : decode cJ6_indexOf 3 = .ok (.invokevirtual 346, 3) := dk_182 1 90 (dk_at dksJ6_indexOf_0 3 rfl rfl)
theorem dJ6_indexOf_6 : decode cJ6_indexOf 6 = .ok (.ireturn, 1) := dk_172 (dk_at dksJ6_indexOf_0 6 rfl rfl)
def dkwJ7_indexOf_0 : List UInt8 := [42, 43, 183, 0, 115, 172]
abbrev dktJ7_indexOf_0 : List UInt8 := dkwJ7_indexOf_0 ++ []
theorem dksJ7_indexOf_0 : cJ7_indexOf.data.toList.drop 0 = dktJ7_indexOf_0 := by decide +kernel
theorem dJ7_indexOf_0 : decode cJ7_indexOf 0 = .ok (.aload_n 0, 1) := dk_42 (dk_at dksJ7_indexOf_0 0 rfl rfl)
theorem dJ7_indexOf_1 : decode cJ7_indexOf 1 = .ok (.aload_n 1, 1) := dk_43 (dk_at dksJ7_indexOf_0 1 rfl rfl)
theorem dJ7_indexOf_2 : decode cJ7_indexOf 2 = .ok (.invokespecial 115, 3) := dk_183 0 115 (dk_at dksJ7_indexOf_0 2 rfl rfl)
theorem dJ7_indexOf_5 : decode cJ7_indexOf 5 = .ok (.ireturn, 1) := dk_172 (dk_at dksJ7_indexOf_0 5 rfl rfl)
def dkwJ15_lastIndexOf_1 : List UInt8 := [51, 27, 145, 160, 0, 5, 29, 172, 132, 3, 255, 167, 255, 239, 2, 172]
abbrev dktJ15_lastIndexOf_1 : List UInt8 := dkwJ15_lastIndexOf_1 ++ []
def dkwJ15_lastIndexOf_0 : List UInt8 := [27, 184, 0, 88, 154, 0, 5, 2, 172, 28, 42, 190, 4, 100, 184, 0, 38, 62, 29, 155, 0, 19, 42, 29]
abbrev dktJ15_lastIndexOf_0 : List UInt8 := dkwJ15_lastIndexOf_0 ++ dktJ15_lastIndexOf_1
theorem dksJ15_lastIndexOf_0 : cJ15_lastIndexOf.data.toList.drop 0 = dktJ15_lastIndexOf_0 := by decide +kernel
theorem dksJ15_lastIndexOf_1 : cJ15_lastIndexOf.data.toList.drop 24 = dktJ15_lastIndexOf_1 := dk_seg dksJ15_lastIndexOf_0 24 rfl rfl
theorem dJ15_lastIndexOf_0 : decode cJ15_lastIndexOf 0 = .ok (.iload_n 1, 1) := dk_27 (dk_at dksJ15_lastIndexOf_0 0 rfl rfl)
theorem dJ15_lastIndexOf_1 : decode cJ15_lastIndexOf 1 = .ok (.invokestatic 88, 3) := dk_184 0 88 (dk_at dksJ15_lastIndexOf_0 1 rfl rfl)
theorem dJ15_lastIndexOf_4 : decode cJ15_lastIndexOf 4 = .ok (.ifCond .ne 5, 3) := dk_154 0 5 (dk_at dksJ15_lastIndexOf_0 4 rfl rfl)
theorem dJ15_lastIndexOf_7 : decode cJ15_lastIndexOf 7 = .ok (.iconst (-1), 1) := dk_2 (dk_at dksJ15_lastIndexOf_0 7 rfl rfl)
theorem dJ15_lastIndexOf_8 : decode cJ15_lastIndexOf 8 = .ok (.ireturn, 1) := dk_172 (dk_at dksJ15_lastIndexOf_0 8 rfl rfl)
theorem dJ15_lastIndexOf_9 : decode cJ15_lastIndexOf 9 = .ok (.iload_n 2, 1) := dk_28 (dk_at dksJ15_lastIndexOf_0 9 rfl rfl)
theorem dJ15_lastIndexOf_10 : decode cJ15_lastIndexOf 10 = .ok (.aload_n 0, 1) := dk_42 (dk_at dksJ15_lastIndexOf_0 10 rfl rfl)
theorem dJ15_lastIndexOf_11 : decode cJ15_lastIndexOf 11 = .ok (.arraylength, 1) := dk_190 (dk_at dksJ15_lastIndexOf_0 11 rfl rfl)
theorem dJ15_lastIndexOf_12 : decode cJ15_lastIndexOf 12 = .ok (.iconst 1, 1) := dk_4 (dk_at dksJ15_lastIndexOf_0 12 rfl rfl)
theorem dJ15_lastIndexOf_13 : decode cJ15_lastIndexOf 13 = .ok (.isub, 1) := dk_100 (dk_at dksJ15_lastIndexOf_0 13 rfl rfl)
theorem dJ15_lastIndexOf_14 : decode cJ15_lastIndexOf 14 = .ok (.invokestatic 38, 3) := dk_184 0 38 (dk_at dksJ15_lastIndexOf_0 14 rfl rfl)
theorem dJ15_lastIndexOf_17 : decode cJ15_lastIndexOf 17 = .ok (.istore_n 3, 1) := dk_62 (dk_at dksJ15_lastIndexOf_0 17 rfl rfl)
theorem dJ15_lastIndexOf_18 : decode cJ15_lastIndexOf 18 = .ok (.iload_n 3, 1) := dk_29 (dk_at dksJ15_lastIndexOf_0 18 rfl rfl)
theorem dJ15_lastIndexOf_19 : decode cJ15_lastIndexOf 19 = .ok (.ifCond .lt 19, 3) := dk_155 0 19 (dk_at dksJ15_lastIndexOf_0 19 rfl rfl)
theorem dJ15_lastIndexOf_22 : decode cJ15_lastIndexOf 22 = .ok (.aload_n 0, 1) := dk_42 (dk_at dksJ15_lastIndexOf_0 22 rfl rfl)
theorem dJ15_lastIndexOf_23 : decode cJ15_lastIndexOf 23 = .ok (.iload_n 3, 1) := dk_29 (dk_at dksJ15_lastIndexOf_0 23 rfl rfl)
theorem dJ15_lastIndexOf_24 : decode cJ15_lastIndexOf 24 = .ok (.baload, 1) := dk_51 (dk_at dksJ15_lastIndexOf_1 0 rfl rfl)
theorem dJ15_lastIndexOf_25 : decode cJ15_lastIndexOf 25 = .ok (.iload_n 1, 1) := dk_27 (dk_at dksJ15_lastIndexOf_1 1 rfl rfl)
theorem dJ15_lastIndexOf_26 : decode cJ15_lastIndexOf 26 = .ok (.i2b, 1) := dk_145 (dk_at dksJ15_lastIndexOf_1 2 rfl rfl)
theorem dJ15_lastIndexOf_27 : decode cJ15_lastIndexOf 27 = .ok (.if_icmp .ne 5, 3) := dk_160 0 5 (dk_at dksJ15_lastIndexOf_1 3 rfl rfl)
theorem dJ15_lastIndexOf_30 : decode cJ15_lastIndexOf 30 = .ok (.iload_n 3, 1) := dk_29 (dk_at dksJ15_lastIndexOf_1 6 rfl rfl)
theorem dJ15_lastIndexOf_31 : decode cJ15_lastIndexOf 31 = .ok (.ireturn, 1) := dk_172 (dk_at dksJ15_lastIndexOf_1 7 rfl rfl)
theorem dJ15_lastIndexOf_32 : decode cJ15_lastIndexOf 32 = .ok (.iinc 3 (-1), 3) := dk_132 3 255 (dk_at dksJ15_lastIndexOf_1 8 rfl rfl)
theorem dJ15_lastIndexOf_35 : decode cJ15_lastIndexOf 35 = .ok (.goto (-17), 3) := dk_167 255 239 (dk_at dksJ15_lastIndexOf_1 11 rfl rfl)
theorem dJ15_lastIndexOf_38 : decode cJ15_lastIndexOf 38 = .ok (.iconst (-1), 1) := dk_2 (dk_at dksJ15_lastIndexOf_1 14 rfl rfl)
theorem dJ15_lastIndexOf_39 : decode cJ15_lastIndexOf 39 = .ok (.ireturn, 1) := dk_172 (dk_at dksJ15_lastIndexOf_1 15 rfl rfl)
def dkwJ5_lastIndexOf_2_1 : List UInt8 := [28, 184, 2, 134, 172]
abbrev dktJ5_lastIndexOf_2_1 : List UInt8 := dkwJ5_lastIndexOf_2_1 ++ []
def dkwJ5_lastIndexOf_2_0 : List UInt8 := [42, 182, 1, 236, 153, 0, 15, 42, 180, 0, 9, 27, 28, 184, 2, 132, 167, 0, 12, 42, 180, 0, 9, 27]
abbrev dktJ5_lastIndexOf_2_0 : List UInt8 := dkwJ5_lastIndexOf_2_0 ++ dktJ5_lastIndexOf_2_1
theorem dksJ5_lastIndexOf_2_0 : cJ5_lastIndexOf_2.data.toList.drop 0 = dktJ5_lastIndexOf_2_0 := by decide +kernel
theorem dksJ5_lastIndexOf_2_1 : cJ5_lastIndexOf_2.data.toList.drop 24 = dktJ5_lastIndexOf_2_1 := dk_seg dksJ5_lastIndexOf_2_0 24 rfl rfl
theorem dJ5_lastIndexOf_2_0 : decode cJ5_lastIndexOf_2 0 = .ok (.aload_n 0, 1) := dk_42 (dk_at dksJ5_lastIndexOf_2_0 0 rfl rfl)
theorem dJ5_lastIndexOf_2_1 : decode cJ5_lastIndexOf_2 1 = .ok (.invokevirtual 492, 3) := dk_182 1 236 (dk_at dksJ5_lastIndexOf_2_0 1 rfl rfl)
theorem dJ5_lastIndexOf_2_4 : decode cJ5_lastIndexOf_2 4 = .ok (.ifCond .eq 15, 3) := dk_153 0 15 (dk_at dksJ5_lastIndexOf_2_0 4 rfl rfl)
theorem dJ5_lastIndexOf_2_7 : decode cJ5_lastIndexOf_2 7 = .ok (.aload_n 0, 1) := dk_42 (dk_at dksJ5_lastIndexOf_2_0 7 rfl rfl)
theorem dJ5_lastIndexOf_2_8 : decode cJ5_lastIndexOf_2 8 = .ok (.getfield 9, 3) := dk_180 0 9 (dk_at dksJ5_lastIndexOf_2_0 8 rfl rfl)
theorem dJ5_lastIndexOf_2_11 : decode cJ5_lastIndexOf_2 11 = .ok (.iload_n 1, 1) := dk_27 (dk_at dksJ5_lastIndexOf_2_0 11 rfl rfl)
theorem dJ5_lastIndexOf_2_12 : decode cJ5_lastIndexOf_2 12 = .ok (.iload_n 2, 1) := dk_28 (dk_at dksJ5_lastIndexOf_2_0 12 rfl rfl)
theorem dJ5_lastIndexOf_2_13 : decode cJ5_lastIndexOf_2 13 = .ok (.invokestatic 644, 3) := dk_184 2 132 (dk_at dksJ5_lastIndexOf_2_0 13 rfl rfl)
theorem dJ5_lastIndexOf_2_16 : decode cJ5_lastIndexOf_2 16 = .ok (.goto 12, 3) := dk_167 0 12 (dk_at dksJ5_lastIndexOf_2_0 16 rfl rfl)
theorem dJ5_lastIndexOf_2_19 : decode cJ5_lastIndexOf_2 19 = .ok (.aload_n 0, 1) := dk_42 (dk_at dksJ5_lastIndexOf_2_0 19 rfl rfl)
theorem dJ5_lastIndexOf_2_20 : decode cJ5_lastIndexOf_2 20 = .ok (.getfield 9, 3) := dk_180 0 9 (dk_at dksJ5_lastIndexOf_2_0 20 rfl rfl)
theorem dJ5_lastIndexOf_2_23 : decode cJ5_lastIndexOf_2 23 = .ok (.iload_n 1, 1) := dk_27 (dk_at dksJ5_lastIndexOf_2_0 23 rfl rfl)
theorem dJ5_lastIndexOf_2_24 : decode cJ5_lastIndexOf_2 24 = .ok (.iload_n 2, 1) := dk_28 (dk_at dksJ5_lastIndexOf_2_1 0 rfl rfl)
theorem dJ5_lastIndexOf_2_25 : decode cJ5_lastIndexOf_2 25 = .ok (.invokestatic 646, 3) := dk_184 2 134 (dk_at dksJ5_lastIndexOf_2_1 1 rfl rfl)
theorem dJ5_lastIndexOf_2_28 : decode cJ5_lastIndexOf_2 28 = .ok (.ireturn, 1) := dk_172 (dk_at dksJ5_lastIndexOf_2_1 4 rfl rfl)
def dkwJ5_lastIndexOf_0 : List UInt8 := [42, 27, 42, 182, 1, 249, 4, 100, 182, 2, 129, 172]
abbrev dktJ5_lastIndexOf_0 : List UInt8 := dkwJ5_lastIndexOf_0 ++ []
theorem dksJ5_lastIndexOf_0 : cJ5_lastIndexOf.data.toList.drop 0 = dktJ5_lastIndexOf_0 := by decide +kernel
theorem dJ5_lastIndexOf_0 : decode cJ5_lastIndexOf 0 = .ok (.aload_n 0, 1) := dk_42 (dk_at dksJ5_lastIndexOf_0 0 rfl rfl)
theorem dJ5_lastIndexOf_1 : decode cJ5_lastIndexOf 1 = .ok (.iload_n 1, 1) := dk_27 (dk_at dksJ5_lastIndexOf_0 1 rfl rfl)
theorem dJ5_lastIndexOf_2 : decode cJ5_lastIndexOf 2 = .ok (.aload_n 0, 1) := dk_42 (dk_at dksJ5_lastIndexOf_0 2 rfl rfl)
theorem dJ5_lastIndexOf_3 : decode cJ5_lastIndexOf 3 = .ok (.invokevirtual 505, 3) := dk_182 1 249 (dk_at dksJ5_lastIndexOf_0 3 rfl rfl)
theorem dJ5_lastIndexOf_6 : decode cJ5_lastIndexOf 6 = .ok (.iconst 1, 1) := dk_4 (dk_at dksJ5_lastIndexOf_0 6 rfl rfl)
theorem dJ5_lastIndexOf_7 : decode cJ5_lastIndexOf 7 = .ok (.isub, 1) := dk_100 (dk_at dksJ5_lastIndexOf_0 7 rfl rfl)
theorem dJ5_lastIndexOf_8 : decode cJ5_lastIndexOf 8 = .ok (.invokevirtual 641, 3) := dk_182 2 129 (dk_at dksJ5_lastIndexOf_0 8 rfl rfl)
theorem dJ5_lastIndexOf_11 : decode cJ5_lastIndexOf 11 = .ok (.ireturn, 1) := dk_172 (dk_at dksJ5_lastIndexOf_0 11 rfl rfl)
def dkwJ16_toString_5 : List UInt8 := [21, 4, 16, 45, 84, 45, 21, 4, 16, 65, 21, 4, 100, 184, 0, 23, 176, 30, 28, 184, 0, 29, 176]
abbrev dktJ16_toString_5 : List UInt8 := dkwJ16_toString_5 ++ []
def dkwJ16_toString_4 : List UInt8 := [167, 255, 225, 45, 21, 4, 178, 0, 17, 30, 117, 136, 52, 145, 84, 21, 5, 153, 0, 12, 45, 132, 4, 255]
abbrev dktJ16_toString_4 : List UInt8 := dkwJ16_toString_4 ++ dktJ16_toString_5
def dkwJ16_toString_3 : List UInt8 := [21, 4, 132, 4, 255, 178, 0, 17, 30, 28, 133, 113, 117, 136, 52, 145, 84, 30, 28, 133, 109, 63]
abbrev dktJ16_toString_3 : List UInt8 := dkwJ16_toString_3 ++ dktJ16_toString_4
def dkwJ16_toString_2 : List UInt8 := [167, 0, 4, 3, 54, 5, 21, 5, 154, 0, 6, 30, 117, 63, 30, 28, 116, 133, 148, 157, 0, 29, 45]
abbrev dktJ16_toString_2 : List UInt8 := dkwJ16_toString_2 ++ dktJ16_toString_3
def dkwJ16_toString_1 : List UInt8 := [176, 178, 0, 13, 153, 0, 105, 16, 65, 188, 8, 78, 16, 64, 54, 4, 30, 9, 148, 156, 0, 7, 4]
abbrev dktJ16_toString_1 : List UInt8 := dkwJ16_toString_1 ++ dktJ16_toString_2
def dkwJ16_toString_0 : List UInt8 := [28, 5, 161, 0, 9, 28, 16, 36, 164, 0, 6, 16, 10, 61, 28, 16, 10, 160, 0, 8, 30, 184, 0, 9]
abbrev dktJ16_toString_0 : List UInt8 := dkwJ16_toString_0 ++ dktJ16_toString_1
theorem dksJ16_toString_0 : cJ16_toString.data.toList.drop 0 = dktJ16_toString_0 := by decide +kernel
theorem dksJ16_toString_1 : cJ16_toString.data.toList.drop 24 = dktJ16_toString_1 := dk_seg dksJ16_toString_0 24 rfl rfl
theorem dksJ16_toString_2 : cJ16_toString.data.toList.drop 47 = dktJ16_toString_2 := dk_seg dksJ16_toString_1 23 rfl rfl
theorem dksJ16_toString_3 : cJ16_toString.data.toList.drop 70 = dktJ16_toString_3 := dk_seg dksJ16_toString_2 23 rfl rfl
theorem dksJ16_toString_4 : cJ16_toString.data.toList.drop 92 = dktJ16_toString_4 := dk_seg dksJ16_toString_3 22 rfl rfl
theorem dksJ16_toString_5 : cJ16_toString.data.toList.drop 116 = dktJ16_toString_5 := dk_seg dksJ16_toString_4 24 rfl rfl
theorem dJ16_toString_0 : decode cJ16_toString 0 = .ok (.iload_n 2, 1) := dk_28 (dk_at dksJ16_toString_0 0 rfl rfl)
theorem dJ16_toString_1 : decode cJ16_toString 1 = .ok (.iconst 2, 1) := dk_5 (dk_at dksJ16_toString_0 1 rfl rfl)
theorem dJ16_toString_2 : decode cJ16_toString 2 = .ok (.if_icmp .lt 9, 3) := dk_161 0 9 (dk_at dksJ16_toString_0 2 rfl rfl)
theorem dJ16_toString_5 : decode cJ16_toString 5 = .ok (.iload_n 2, 1) := dk_28 (dk_at dksJ16_toString_0 5 rfl rfl)
theorem dJ16_toString_6 : decode cJ16_toString 6 = .ok (.bipush 36, 2) := dk_16 36 (dk_at dksJ16_toString_0 6 rfl rfl)
theorem dJ16_toString_8 : decode cJ16_toString 8 = .ok (.if_icmp .le 6, 3) := dk_164 0 6 (dk_at dksJ16_toString_0 8 rfl rfl)
theorem dJ16_toString_11 : decode cJ16_toString 11 = .ok (.bipush 10, 2) := dk_16 10 (dk_at dksJ16_toString_0 11 rfl rfl)
theorem dJ16_toString_13 : decode cJ16_toString 13 = .ok (.istore_n 2, 1) := dk_61 (dk_at dksJ16_toString_0 13 rfl rfl)
theorem dJ16_toString_14 : decode cJ16_toString 14 = .ok (.iload_n 2, 1) := dk_28 (dk_at dksJ16_toString_0 14 rfl rfl)
theorem dJ16_toString_15 : decode cJ16_toString 15 = .ok (.bipush 10, 2) := dk_16 10 (dk_at dksJ16_toString_0 15 rfl rfl)
theorem dJ16_toString_17 : decode cJ16_toString 17 = .ok (.if_icmp .ne 8, 3) := dk_160 0 8 (dk_at dksJ16_toString_0 17 rfl rfl)
theorem dJ16_toString_20 : decode cJ16_toString 20 = .ok (.lload_n 0, 1) := dk_30 (dk_at dksJ16_toString_0 20 rfl rfl)
theorem dJ16_toString_21 : decode cJ16_toString 21 = .ok (.invokestatic 9, 3) := dk_184 0 9 (dk_at dksJ16_toString_0 21 rfl rfl)
theorem dJ16_toString_24 : decode cJ16_toString 24 = .ok (.areturn, 1) := dk_176 (dk_at dksJ16_toString_1 0 rfl rfl)
theorem dJ16_toString_25 : decode cJ16_toString 25 = .ok (.getstatic 13, 3) := dk_178 0 13 (dk_at dksJ16_toString_1 1 rfl rfl)
theorem dJ16_toString_28 : decode cJ16_toString 28 = .ok (.ifCond .eq 105, 3) := dk_153 0 105 (dk_at dksJ16_toString_1 4 rfl rfl)
theorem dJ16_toString_31 : decode cJ16_toString 31 = .ok (.bipush 65, 2) := dk_16 65 (dk_at dksJ16_toString_1 7 rfl rfl)
theorem dJ16_toString_33 : decode cJ16_toString 33 = .ok (.newarray .byte, 2) := dk_188_8 (dk_at dksJ16_toString_1 9 rfl rfl)
theorem dJ16_toString_35 : decode cJ16_toString 35 = .ok (.astore_n 3, 1) := dk_78 (dk_at dksJ16_toString_1 11 rfl rfl)
theorem dJ16_toString_36 : decode cJ16_toString 36 = .ok (.bipush 64, 2) := dk_16 64 (dk_at dksJ16_toString_1 12 rfl rfl)
theorem dJ16_toString_38 : decode cJ16_toString 38 = .ok (.istore 4, 2) := dk_54 4 (dk_at dksJ16_toString_1 14 rfl rfl)
theorem dJ16_toString_40 : decode cJ16_toString 40 = .ok (.lload_n 0, 1) := dk_30 (dk_at dksJ16_toString_1 16 rfl rfl)
theorem dJ16_toString_41 : decode cJ16_toString 41 = .ok (.lconst 0, 1) := dk_9 (dk_at dksJ16_toString_1 17 rfl rfl)
theorem dJ16_toString_42 : decode cJ16_toString 42 = .ok (.lcmp, 1) := dk_148 (dk_at dksJ16_toString_1 18 rfl rfl)
theorem dJ16_toString_43 : decode cJ16_toString 43 = .ok (.ifCond .ge 7, 3) := dk_156 0 7 (dk_at dksJ16_toString_1 19 rfl rfl)
theorem dJ16_toString_46 : decode cJ16_toString 46 = .ok (.iconst 1, 1) := dk_4 (dk_at dksJ16_toString_1 22 rfl rfl)
theorem dJ16_toString_47 : decode cJ16_toString 47 = .ok (.goto 4, 3) := dk_167 0 4 (dk_at dksJ16_toString_2 0 rfl rfl)
theorem dJ16_toString_50 : decode cJ16_toString 50 = .ok (.iconst 0, 1) := dk_3 (dk_at dksJ16_toString_2 3 rfl rfl)
theorem dJ16_toString_51 : decode cJ16_toString 51 = .ok (.istore 5, 2) := dk_54 5 (dk_at dksJ16_toString_2 4 rfl rfl)
theorem dJ16_toString_53 : decode cJ16_toString 53 = .ok (.iload 5, 2) := dk_21 5 (dk_at dksJ16_toString_2 6 rfl rfl)
theorem dJ16_toString_55 : decode cJ16_toString 55 = .ok (.ifCond .ne 6, 3) := dk_154 0 6 (dk_at dksJ16_toString_2 8 rfl rfl)
theorem dJ16_toString_58 : decode cJ16_toString 58 = .ok (.lload_n 0, 1) := dk_30 (dk_at dksJ16_toString_2 11 rfl rfl)
theorem dJ16_toString_59 : decode cJ16_toString 59 = .ok (.lneg, 1) := dk_117 (dk_at dksJ16_toString_2 12 rfl rfl)
theorem dJ16_toString_60 : decode cJ16_toString 60 = .ok (.lstore_n 0, 1) := dk_63 (dk_at dksJ16_toString_2 13 rfl rfl)
theorem dJ16_toString_61 : decode cJ16_toString 61 = .ok (.lload_n 0, 1) := dk_30 (dk_at dksJ16_toString_2 14 rfl rfl)
theorem dJ16_toString_62 : decode cJ16_toString 62 = .ok (.iload_n 2, 1) := dk_28 (dk_at dksJ16_toString_2 15 rfl rfl)
theorem dJ16_toString_63 : decode cJ16_toString 63 = .ok (.ineg, 1) := dk_116 (dk_at dksJ16_toString_2 16 rfl rfl)
theorem dJ16_toString_64 : decode cJ16_toString 64 = .ok (.i2l, 1) := dk_133 (dk_at dksJ16_toString_2 17 rfl rfl)
theorem dJ16_toString_65 : decode cJ16_toString 65 = .ok (.lcmp, 1) := dk_148 (dk_at dksJ16_toString_2 18 rfl rfl)
theorem dJ16_toString_66 : decode cJ16_toString 66 = .ok (.ifCond .gt 29, 3) := dk_157 0 29 (dk_at dksJ16_toString_2 19 rfl rfl)
theorem dJ16_toString_69 : decode cJ16_toString 69 = .ok (.aload_n 3, 1) := dk_45 (dk_at dksJ16_toString_2 22 rfl rfl)
theorem dJ16_toString_70 : decode cJ16_toString 70 = .ok (.iload 4, 2) := dk_21 4 (dk_at dksJ16_toString_3 0 rfl rfl)
theorem dJ16_toString_72 : decode cJ16_toString 72 = .ok (.iinc 4 (-1), 3) := dk_132 4 255 (dk_at dksJ16_toString_3 2 rfl rfl)
theorem dJ16_toString_75 : decode cJ16_toString 75 = .ok (.getstatic 17, 3) := dk_178 0 17 (dk_at dksJ16_toString_3 5 rfl rfl)
theorem dJ16_toString_78 : decode cJ16_toString 78 = .ok (.lload_n 0, 1) := dk_30 (dk_at dksJ16_toString_3 8 rfl rfl)
theorem dJ16_toString_79 : decode cJ16_toString 79 = .ok (.iload_n 2, 1) := dk_28 (dk_at dksJ16_toString_3 9 rfl rfl)
theorem dJ16_toString_80 : decode cJ16_toString 80 = .ok (.i2l, 1) := dk_133 (dk_at dksJ16_toString_3 10 rfl rfl)
theorem dJ16_toString_81 : decode cJ16_toString 81 = .ok (.lrem, 1) := dk_113 (dk_at dksJ16_toString_3 11 rfl rfl)
theorem dJ16_toString_82 : decode cJ16_toString 82 = .ok (.lneg, 1) := dk_117 (dk_at dksJ16_toString_3 12 rfl rfl)
theorem dJ16_toString_83 : decode cJ16_toString 83 = .ok (.l2i, 1) := dk_136 (dk_at dksJ16_toString_3 13 rfl rfl)
theorem dJ16_toString_84 : decode cJ16_toString 84 = .ok (.caload, 1) := dk_52 (dk_at dksJ16_toString_3 14 rfl rfl)
theorem dJ16_toString_85 : decode cJ16_toString 85 = .ok (.i2b, 1) := dk_145 (dk_at dksJ16_toString_3 15 rfl rfl)
theorem dJ16_toString_86 : decode cJ16_toString 86 = .ok (.bastore, 1) := dk_84 (dk_at dksJ16_toString_3 16 rfl rfl)
theorem dJ16_toString_87 : decode cJ16_toString 87 = .ok (.lload_n 0, 1) := dk_30 (dk_at dksJ16_toString_3 17 rfl rfl)
theorem dJ16_toString_88 : decode cJ16_toString 88 = .ok (.iload_n 2, 1) := dk_28 (dk_at dksJ16_toString_3 18 rfl rfl)
theorem dJ16_toString_89 : decode cJ16_toString 89 = .ok (.i2l, 1) := dk_133 (dk_at dksJ16_toString_3 19 rfl rfl)
theorem dJ16_toString_90 : decode cJ16_toString 90 = .ok (.ldiv, 1) := dk_109 (dk_at dksJ16_toString_3 20 rfl rfl)
theorem dJ16_toString_91 : decode cJ16_toString 91 = .ok (.lstore_n 0, 1) := dk_63 (dk_at dksJ16_toString_3 21 rfl rfl)
theorem dJ16_toString_92 : decode cJ16_toString 92 = .ok (.goto (-31), 3) := dk_167 255 225 (dk_at dksJ16_toString_4 0 rfl rfl)
theorem dJ16_toString_95 : decode cJ16_toString 95 = .ok (.aload_n 3, 1) := dk_45 (dk_at dksJ16_toString_4 3 rfl rfl)
theorem dJ16_toString_96 : decode cJ16_toString 96 = .ok (.iload 4, 2) := dk_21 4 (dk_at dksJ16_toString_4 4 rfl rfl)
theorem dJ16_toString_98 : decode cJ16_toString 98 = .ok (.getstatic 17, 3) := dk_178 0 17 (dk_at dksJ16_toString_4 6 rfl rfl)
theorem dJ16_toString_101 : decode cJ16_toString 101 = .ok (.lload_n 0, 1) := dk_30 (dk_at dksJ16_toString_4 9 rfl rfl)
theorem dJ16_toString_102 : decode cJ16_toString 102 = .ok (.lneg, 1) := dk_117 (dk_at dksJ16_toString_4 10 rfl rfl)
theorem dJ16_toString_103 : decode cJ16_toString 103 = .ok (.l2i, 1) := dk_136 (dk_at dksJ16_toString_4 11 rfl rfl)
theorem dJ16_toString_104 : decode cJ16_toString 104 = .ok (.caload, 1) := dk_52 (dk_at dksJ16_toString_4 12 rfl rfl)
theorem dJ16_toString_105 : decode cJ16_toString 105 = .ok (.i2b, 1) := dk_145 (dk_at dksJ16_toString_4 13 rfl rfl)
theorem dJ16_toString_106 : decode cJ16_toString 106 = .ok (.bastore, 1) := dk_84 (dk_at dksJ16_toString_4 14 rfl rfl)
theorem dJ16_toString_107 : decode cJ16_toString 107 = .ok (.iload 5, 2) := dk_21 5 (dk_at dksJ16_toString_4 15 rfl rfl)
theorem dJ16_toString_109 : decode cJ16_toString 109 = .ok (.ifCond .eq 12, 3) := dk_153 0 12 (dk_at dksJ16_toString_4 17 rfl rfl)
theorem dJ16_toString_112 : decode cJ16_toString 112 = .ok (.aload_n 3, 1) := dk_45 (dk_at dksJ16_toString_4 20 rfl rfl)
theorem dJ16_toString_113 : decode cJ16_toString 113 = .ok (.iinc 4 (-1), 3) := dk_132 4 255 (dk_at dksJ16_toString_4 21 rfl rfl)
theorem dJ16_toString_116 : decode cJ16_toString 116 = .ok (.iload 4, 2) := dk_21 4 (dk_at dksJ16_toString_5 0 rfl rfl)
theorem dJ16_toString_118 : decode cJ16_toString 118 = .ok (.bipush 45, 2) := dk_16 45 (dk_at dksJ16_toString_5 2 rfl rfl)
theorem dJ16_toString_120 : decode cJ16_toString 120 = .ok (.bastore, 1) := dk_84 (dk_at dksJ16_toString_5 4 rfl rfl)
theorem dJ16_toString_121 : decode cJ16_toString 121 = .ok (.aload_n 3, 1) := dk_45 (dk_at dksJ16_toString_5 5 rfl rfl)
theorem dJ16_toString_122 : decode cJ16_toString 122 = .ok (.iload 4, 2) := dk_21 4 (dk_at dksJ16_toString_5 6 rfl rfl)
theorem dJ16_toString_124 : decode cJ16_toString 124 = .ok (.bipush 65, 2) := dk_16 65 (dk_at dksJ16_toString_5 8 rfl rfl)
theorem dJ16_toString_126 : decode cJ16_toString 126 = .ok (.iload 4, 2) := dk_21 4 (dk_at dksJ16_toString_5 10 rfl rfl)
theorem dJ16_toString_128 : decode cJ16_toString 128 = .ok (.isub, 1) := dk_100 (dk_at dksJ16_toString_5 12 rfl rfl)
theorem dJ16_toString_129 : decode cJ16_toString 129 = .ok (.invokestatic 23, 3) := dk_184 0 23 (dk_at dksJ16_toString_5 13 rfl rfl)
theorem dJ16_toString_132 : decode cJ16_toString 132 = .ok (.areturn, 1) := dk_176 (dk_at dksJ16_toString_5 16 rfl rfl)
theorem dJ16_toString_133 : decode cJ16_toString 133 = .ok (.lload_n 0, 1) := dk_30 (dk_at dksJ16_toString_5 17 rfl rfl)
theorem dJ16_toString_134 : decode cJ16_toString 134 = .ok (.iload_n 2, 1) := dk_28 (dk_at dksJ16_toString_5 18 rfl rfl)
theorem dJ16_toString_135 : decode cJ16_toString 135 = .ok (.invokestatic 29, 3) := dk_184 0 29 (dk_at dksJ16_toString_5 19 rfl rfl)
theorem dJ16_toString_138 : decode cJ16_toString 138 = .ok (.areturn, 1) := dk_176 (dk_at dksJ16_toString_5 22 rfl rfl)
theorem yd_J12_clamp : yJ12_clamp.cls ≠ "java/lang/invoke/MethodHandle" ∧ yJ12_clamp.cls ≠ "java/lang/invoke/VarHandle" ∧ (parseMethodDescriptor yJ12_clamp.desc).map (fun d => d.parameters.length) = some 3 := by decide +kernel
theorem yd_J12_max_2 : yJ12_max_2.cls ≠ "java/lang/invoke/MethodHandle" ∧ yJ12_max_2.cls ≠ "java/lang/invoke/VarHandle" ∧ (parseMethodDescriptor yJ12_max_2.desc).map (fun d => d.parameters.length) = some 2 := by decide +kernel
theorem yd_J12_min_2 : yJ12_min_2.cls ≠ "java/lang/invoke/MethodHandle" ∧ yJ12_min_2.cls ≠ "java/lang/invoke/VarHandle" ∧ (parseMethodDescriptor yJ12_min_2.desc).map (fun d => d.parameters.length) = some 2 := by decide +kernel
theorem yd_J15_indexOf_2 : yJ15_indexOf_2.cls ≠ "java/lang/invoke/MethodHandle" ∧ yJ15_indexOf_2.cls ≠ "java/lang/invoke/VarHandle" ∧ (parseMethodDescriptor yJ15_indexOf_2.desc).map (fun d => d.parameters.length) = some 5 := by decide +kernel
theorem yd_J15_lastIndexOf : yJ15_lastIndexOf.cls ≠ "java/lang/invoke/MethodHandle" ∧ yJ15_lastIndexOf.cls ≠ "java/lang/invoke/VarHandle" ∧ (parseMethodDescriptor yJ15_lastIndexOf.desc).map (fun d => d.parameters.length) = some 3 := by decide +kernel
theorem yd_J16_toString_2 : yJ16_toString_2.cls ≠ "java/lang/invoke/MethodHandle" ∧ yJ16_toString_2.cls ≠ "java/lang/invoke/VarHandle" ∧ (parseMethodDescriptor yJ16_toString_2.desc).map (fun d => d.parameters.length) = some 1 := by decide +kernel
theorem yd_J5_indexOf_3 : yJ5_indexOf_3.cls ≠ "java/lang/invoke/MethodHandle" ∧ yJ5_indexOf_3.cls ≠ "java/lang/invoke/VarHandle" ∧ (parseMethodDescriptor yJ5_indexOf_3.desc).map (fun d => d.parameters.length) = some 5 := by decide +kernel
theorem ydv_J5_lastIndexOf_2 : yJ5_lastIndexOf_2.cls = "java/lang/String" ∧ yJ5_lastIndexOf_2.cls ≠ "java/lang/invoke/MethodHandle" ∧ yJ5_lastIndexOf_2.cls ≠ "java/lang/invoke/VarHandle" ∧ (parseMethodDescriptor yJ5_lastIndexOf_2.desc).map (fun d => d.parameters.length) = some 2 := by decide +kernel
theorem ydu_J6_indexOf : yJ6_indexOf.name ≠ "<init>" ∧ (parseMethodDescriptor yJ6_indexOf.desc).map (fun d => d.parameters.length) = some 1 := by decide +kernel
theorem ydu_J6_indexOf_2 : yJ6_indexOf_2.name ≠ "<init>" ∧ (parseMethodDescriptor yJ6_indexOf_2.desc).map (fun d => d.parameters.length) = some 2 := by decide +kernel
/-! ### letters looked for -/
/-- as isIx, of bytes -/
def isIf (f : Nat → Int32) (n c : Nat) (r : Int32) : Prop := (∃ i, r = nI i ∧ i < n ∧ f i = nI c ∧ ∀ j, j < i → f j ≠ nI c) ∨ (r = -1 ∧ ∀ j, j < n → f j ≠ nI c)
theorem isIf.ix {f : Nat → Int32} {T : List Nat} {c : Nat} {r : Int32} (h : isIf f T.length c r) (hc : c < 128) (hT : ∀ c ∈ T, c < 128) (hf : ∀ i, i < T.length → f i = nI (T.getD i 0)) : isIx T c 0 r := by
  have hq : ∀ i, i < T.length → (f i = nI c ↔ T.getD i 0 = c) := fun i hi => by
    have h1 : T.getD i 0 < 128 := by
      rw [List.getD_eq_getElem?_getD, List.getElem?_eq_getElem hi]
      exact hT _ (List.getElem_mem hi)
    rw [hf i hi, nI_eq (by omega) (by omega)]
  rcases h with ⟨i, h1, h2, h3, h4⟩ | ⟨h1, h2⟩
  · exact Or.inl ⟨i, h1, Nat.zero_le _, h2, (hq i h2).mp h3, fun j _ hj q => h4 j hj ((hq j (by omega)).mpr q)⟩
  · exact Or.inr ⟨h1, fun j _ hj q => h2 j hj ((hq j hj).mpr q)⟩

theorem pl_J12_clamp : plainFor yJ12_clamp = true := by decide +kernel
set_option maxHeartbeats 1000000 in
theorem m_clamp0 (l : Launch) (z : State) (H0 : Heap)  (n : Nat) (hn : n < 2147483648) : Met l yJ12_clamp (ws_ yJ12_clamp cJ12_clamp 4 (some .int)) { frames := 1, cells := 0, slots := 0, locals := 23 } (gPc z H0 [.long (lN 0), .int 0, .int (nI n)]) (gPi H0 (fun r => r = 0)) 0 0 gno := by
  refine g_start (pl_J12_clamp) (Nat.le_of_ble_eq_true rfl) ?_
  intro p e s m below meth c ls hx hb hr hlocks hml hown hname hts hwm hl
  have hown : s.vm.findClass "java/lang/Math" = some m.cls := hown
  have hal : z.vm.Alike s.vm := hwm.alike
  have hCF : CallFix p m c cJ12_clamp 4 s [.long (lN 0), .int 0, .int (nI n)].toArray lw_all "java/lang/Math" := ⟨hx, hb, hml, hown, hts⟩
  have hl : lv_has ls 4 [(0, .long (lN 0)), (2, .int 0), (3, .int (nI n))] := hl
  refine lv_iload_n hx hb dJ12_clamp_0 rfl (lv_at hl 1 rfl) ?_
  refine lv_iload_n hx hb dJ12_clamp_1 rfl (lv_at hl 2 rfl) ?_
  refine lv_icmp_le (tgt := 36) hx hb dJ12_clamp_2 (by decide) (fun c_2 => ?_) (fun c_2 => False.elim (by
    have c_2 := mt (ai_le (a := 0) (b := n) (rfl) (rfl) (by omega) (by omega)).mpr c_2
    omega))
  have c_2 := (ai_le (a := 0) (b := n) (rfl) (rfl) (by omega) (by omega)).mp c_2
  refine lv_iload_n hx hb dJ12_clamp_36 rfl (lv_at hl 2 rfl) ?_
  refine lv_i2l hx hb dJ12_clamp_37 rfl ?_
  refine g_topl (v := lN n) (ai_i2l (rfl) (by omega)) ?_
  refine lv_lload_n hx hb dJ12_clamp_38 rfl (lv_at hl 0 rfl) ?_
  refine lv_iload_n hx hb dJ12_clamp_39 rfl (lv_at hl 1 rfl) ?_
  refine lv_i2l hx hb dJ12_clamp_40 rfl ?_
  refine g_topl (v := lN 0) (ai_i2l (rfl) (by omega)) ?_
  refine gcS2_lP hCF hwm hl.1 (m_maxL l z H0 (lN 0) (lN 0)  ) (lw_S q1607 q1114 q72 q1115) yd_J12_max_2 ⟨Nat.le_of_ble_eq_true rfl, Nat.le_of_ble_eq_true rfl⟩ ⟨Nat.le_of_ble_eq_true rfl, Nat.le_of_ble_eq_true rfl⟩ (Nat.le_of_ble_eq_true rfl) dJ12_clamp_41 (fun r_1 hp => ?_)
  subst hp
  rw [show (if lN 0 < (lN 0) then (lN 0) else lN 0) = lN 0 from rfl]
  refine gcS2_lP hCF hwm hl.1 (m_minL l z H0 (lN n) (lN 0)  ) (lw_S q1608 q1609 q72 q1610) yd_J12_min_2 ⟨Nat.le_of_ble_eq_true rfl, Nat.le_of_ble_eq_true rfl⟩ ⟨Nat.le_of_ble_eq_true rfl, Nat.le_of_ble_eq_true rfl⟩ (Nat.le_of_ble_eq_true rfl) dJ12_clamp_44 (fun r_2 hp => ?_)
  subst hp
  rw [show (if lN 0 < lN n then lN 0 else lN n) = lN 0 by split; rfl; rename_i q; rcases Nat.eq_zero_or_pos n with e | e; rw [e]; exact absurd ((lN_lt (by omega) (by omega)).mpr e) q]
  refine lv_l2i hx hb dJ12_clamp_47 rfl ?_
  refine g_topi (v := nI 0) (ai_l2i (rfl)) ?_
  refine g_iretP hx hb hr hlocks ?_ dJ12_clamp_48
  rfl
set_option maxHeartbeats 1000000 in
theorem m_ixf (l : Launch) (z : State) (H0 : Heap) (b : Nat) (b2 : Nat) (n : Nat) (cap : Nat) (f : Nat → Int32) (w w2 : Bool) (ch : Nat) (hn0 : 0 < n) (hn : n ≤ cap) (hc9 : cap < 1000000) (hch : ch < 128) (hB : gI z w .byte H0 b cap f) (hB2 : gI z w2 .byte H0 b2 1 (bof [ch])) : Met l yJ15_indexOf_2 (ws_ yJ15_indexOf_2 cJ15_indexOf_2 11 (some .int)) { frames := 0, cells := 0, slots := 0, locals := 0 } (gPc z H0 [.ref b, .int (nI n), .ref b2, .int 1, .int 0]) (gPi H0 (fun r => isIf f n ch r)) 0 0 gno := by
  refine g_start (by decide +kernel) (Nat.le_of_ble_eq_true rfl) ?_
  intro p e s m below meth c ls hx hb hr hlocks hml hown hname hts hwm hl
  have hown : s.vm.findClass "java/lang/StringLatin1" = some m.cls := hown
  have hal : z.vm.Alike s.vm := hwm.alike
  have hCF : CallFix p m c cJ15_indexOf_2 11 s [.ref b, .int (nI n), .ref b2, .int 1, .int 0].toArray lw_all "java/lang/StringLatin1" := ⟨hx, hb, hml, hown, hts⟩
  have hl : lv_has ls 11 [(0, .ref b), (1, .int (nI n)), (2, .ref b2), (3, .int 1), (4, .int 0)] := hl
  refine lv_aload_n hx hb dJ15_indexOf_2_0 rfl (lv_at hl 2 rfl) ?_
  refine lv_iconst (v := 0) hx hb dJ15_indexOf_2_1 (by decide) ?_
  refine gw_bald hx hb hal hB2 0 (rfl) (by omega) (by omega) dJ15_indexOf_2_2 ?_
  refine g_topi (v := (nI ([ch].getD 0 0))) rfl ?_
  refine g_topi (v := (nI ch)) (rfl) ?_
  refine lv_istore hx hb dJ15_indexOf_2_3 hl (by decide) rfl (fun ls hl => ?_)
  have hl : lv_has ls 11 [(5, .int (nI ch)), (0, .ref b), (1, .int (nI n)), (2, .ref b2), (3, .int 1), (4, .int 0)] := hl
  refine lv_iload_n hx hb dJ15_indexOf_2_5 rfl (lv_at hl 2 rfl) ?_
  refine lv_iload_n hx hb dJ15_indexOf_2_6 rfl (lv_at hl 4 rfl) ?_
  refine lv_isub hx hb dJ15_indexOf_2_7 ?_
  refine g_topi (v := nI (n - 1)) (ai_sub (a := n) (b := 1) (rfl) (rfl) (by omega)) ?_
  refine lv_istore hx hb dJ15_indexOf_2_8 hl (by decide) rfl (fun ls hl => ?_)
  have hl : lv_has ls 11 [(6, .int (nI (n - 1))), (5, .int (nI ch)), (0, .ref b), (1, .int (nI n)), (2, .ref b2), (3, .int 1), (4, .int 0)] := hl
  refine lv_iload hx hb dJ15_indexOf_2_10 (lv_at hl 6 rfl) ?_
  refine lv_istore hx hb dJ15_indexOf_2_12 hl (by decide) rfl (fun ls hl => ?_)
  have hl : lv_has ls 11 [(7, .int 0), (6, .int (nI (n - 1))), (5, .int (nI ch)), (0, .ref b), (1, .int (nI n)), (2, .ref b2), (3, .int 1), (4, .int 0)] := hl
  refine lv_iload hx hb dJ15_indexOf_2_14 (lv_at hl 0 rfl) ?_
  refine lv_iload hx hb dJ15_indexOf_2_16 (lv_at hl 1 rfl) ?_
  refine lv_icmp_gt (tgt := 119) hx hb dJ15_indexOf_2_18 (by decide) (fun c_18 => False.elim (by
    have c_18 := (ai_lt (a := (n - 1)) (b := 0) (rfl) (rfl) (by omega) (by omega)).mp c_18
    omega)) (fun c_18 => ?_)
  have c_18 := mt (ai_lt (a := (n - 1)) (b := 0) (rfl) (rfl) (by omega) (by omega)).mpr c_18
  refine lv_aload_n hx hb dJ15_indexOf_2_21 rfl (lv_at hl 3 rfl) ?_
  refine lv_iload hx hb dJ15_indexOf_2_22 (lv_at hl 0 rfl) ?_
  refine gw_bald hx hb hal hB 0 (rfl) (by omega) (by omega) dJ15_indexOf_2_24 ?_
  refine lv_iload hx hb dJ15_indexOf_2_25 (lv_at hl 2 rfl) ?_
  refine lv_icmp_eq (tgt := 52) hx hb dJ15_indexOf_2_27 (by decide) (fun c_27 => ?_) (fun c_27 => ?_)
  · skip
    have c_27 : f 0 = nI ch := c_27
    refine lv_iload hx hb dJ15_indexOf_2_52 (lv_at hl 0 rfl) ?_
    refine lv_iload hx hb dJ15_indexOf_2_54 (lv_at hl 1 rfl) ?_
    refine lv_icmp_gt (tgt := 113) hx hb dJ15_indexOf_2_56 (by decide) (fun c_56 => False.elim (by
      have c_56 := (ai_lt (a := (n - 1)) (b := 0) (rfl) (rfl) (by omega) (by omega)).mp c_56
      omega)) (fun c_56 => ?_)
    have c_56 := mt (ai_lt (a := (n - 1)) (b := 0) (rfl) (rfl) (by omega) (by omega)).mpr c_56
    refine lv_iload hx hb dJ15_indexOf_2_59 (lv_at hl 0 rfl) ?_
    refine lv_iconst (v := 1) hx hb dJ15_indexOf_2_61 (by decide) ?_
    refine lv_iadd hx hb dJ15_indexOf_2_62 ?_
    refine g_topi (v := nI 1) (ai_add (a := 0) (b := 1) (rfl) (rfl)) ?_
    refine lv_istore hx hb dJ15_indexOf_2_63 hl (by decide) rfl (fun ls hl => ?_)
    have hl : lv_has ls 11 [(8, .int (nI 1)), (7, .int 0), (6, .int (nI (n - 1))), (5, .int (nI ch)), (0, .ref b), (1, .int (nI n)), (2, .ref b2), (3, .int 1), (4, .int 0)] := hl
    refine lv_iload hx hb dJ15_indexOf_2_65 (lv_at hl 0 rfl) ?_
    refine lv_iload_n hx hb dJ15_indexOf_2_67 rfl (lv_at hl 7 rfl) ?_
    refine lv_iadd hx hb dJ15_indexOf_2_68 ?_
    refine g_topi (v := nI 2) (ai_add (a := 1) (b := 1) (rfl) (rfl)) ?_
    refine lv_iconst (v := 1) hx hb dJ15_indexOf_2_69 (by decide) ?_
    refine lv_isub hx hb dJ15_indexOf_2_70 ?_
    refine g_topi (v := nI 1) (ai_sub (a := 2) (b := 1) (rfl) (rfl) (by omega)) ?_
    refine lv_istore hx hb dJ15_indexOf_2_71 hl (by decide) rfl (fun ls hl => ?_)
    have hl : lv_has ls 11 [(9, .int (nI 1)), (8, .int (nI 1)), (7, .int 0), (6, .int (nI (n - 1))), (5, .int (nI ch)), (0, .ref b), (1, .int (nI n)), (2, .ref b2), (3, .int 1), (4, .int 0)] := hl
    refine lv_iconst (v := 1) hx hb dJ15_indexOf_2_73 (by decide) ?_
    refine lv_istore hx hb dJ15_indexOf_2_74 hl (by decide) rfl (fun ls hl => ?_)
    have hl : lv_has ls 11 [(10, .int 1), (9, .int (nI 1)), (8, .int (nI 1)), (7, .int 0), (6, .int (nI (n - 1))), (5, .int (nI ch)), (0, .ref b), (1, .int (nI n)), (2, .ref b2), (3, .int 1), (4, .int 0)] := hl
    refine lv_iload hx hb dJ15_indexOf_2_76 (lv_at hl 2 rfl) ?_
    refine lv_iload hx hb dJ15_indexOf_2_78 (lv_at hl 1 rfl) ?_
    refine lv_icmp_ge (tgt := 103) hx hb dJ15_indexOf_2_80 (by decide) (fun c_80 => ?_) (fun c_80 => absurd (by decide) c_80)
    refine lv_iload hx hb dJ15_indexOf_2_103 (lv_at hl 2 rfl) ?_
    refine lv_iload hx hb dJ15_indexOf_2_105 (lv_at hl 1 rfl) ?_
    refine lv_icmp_ne (tgt := 113) hx hb dJ15_indexOf_2_107 (by decide) (fun c_107 => absurd (rfl) c_107) (fun c_107 => ?_)
    refine lv_iload hx hb dJ15_indexOf_2_110 (lv_at hl 3 rfl) ?_
    refine g_iretP hx hb hr hlocks ?_ dJ15_indexOf_2_112
    exact Or.inl ⟨0, rfl, hn0, c_27, fun j hj => by omega⟩
  · skip
    have c_27 : ¬ f 0 = nI ch := c_27
    have loop : ∀ (n_ : Nat) (i : Nat), (i < n) → (∀ j, j ≤ i → f j ≠ nI ch) → (n - i) < n_ → ∀ (ls : Array Slot), lv_has ls 11 [(7, .int (nI i)), (6, .int (nI (n - 1))), (5, .int (nI ch)), (0, .ref b), (1, .int (nI n)), (2, .ref b2), (3, .int 1), (4, .int 0)] → W p l e { frames := 0, cells := 0, slots := 0, locals := 0 } s m [.ref b, .int (nI n), .ref b2, .int 1, .int 0].toArray below meth c H0 [] 0 0 (MQ below (gPi H0 (fun r => isIf f n ch r)) [.ref b, .int (nI n), .ref b2, .int 1, .int 0].toArray s 0 0 (gno)) (F0 m 30 ls []) := by
      intro n_
      induction n_ with
      | zero => intro i hi hq hm_; exact absurd hm_ (Nat.not_lt_zero _)
      | succ n_ ih_loop =>
        intro i hi hq hm_ ls hl
        refine lv_iinc (k := 0) (v := (nI (i + 1))) hx hb dJ15_indexOf_2_30 hl rfl (ai_add (a := i) (b := 1) (rfl) (show Int32.ofInt 1 = nI 1 by decide)) (by decide) rfl (fun ls hl => ?_)
        have hl : lv_has ls 11 [(7, .int (nI (i + 1))), (6, .int (nI (n - 1))), (5, .int (nI ch)), (0, .ref b), (1, .int (nI n)), (2, .ref b2), (3, .int 1), (4, .int 0)] := hl
        refine lv_iload hx hb dJ15_indexOf_2_33 (lv_at hl 0 rfl) ?_
        refine lv_iload hx hb dJ15_indexOf_2_35 (lv_at hl 1 rfl) ?_
        refine lv_icmp_gt (tgt := 52) hx hb dJ15_indexOf_2_37 (by decide) (fun c_37 => ?_) (fun c_37 => ?_)
        · skip
          have c_37 := (ai_lt (a := (n - 1)) (b := (i + 1)) (rfl) (rfl) (by omega) (by omega)).mp c_37
          refine lv_iload hx hb dJ15_indexOf_2_52 (lv_at hl 0 rfl) ?_
          refine lv_iload hx hb dJ15_indexOf_2_54 (lv_at hl 1 rfl) ?_
          refine lv_icmp_gt (tgt := 113) hx hb dJ15_indexOf_2_56 (by decide) (fun c_56 => ?_) (fun c_56 => False.elim (by
            have c_56 := mt (ai_lt (a := (n - 1)) (b := (i + 1)) (rfl) (rfl) (by omega) (by omega)).mpr c_56
            omega))
          have c_56 := (ai_lt (a := (n - 1)) (b := (i + 1)) (rfl) (rfl) (by omega) (by omega)).mp c_56
          refine lv_iinc (k := 0) (v := (nI (i + 2))) hx hb dJ15_indexOf_2_113 hl rfl (ai_add (a := (i + 1)) (b := 1) (rfl) (show Int32.ofInt 1 = nI 1 by decide)) (by decide) rfl (fun ls hl => ?_)
          have hl : lv_has ls 11 [(7, .int (nI (i + 2))), (6, .int (nI (n - 1))), (5, .int (nI ch)), (0, .ref b), (1, .int (nI n)), (2, .ref b2), (3, .int 1), (4, .int 0)] := hl
          refine lv_goto (tgt := 14) hx hb dJ15_indexOf_2_116 (by decide) ?_
          refine lv_iload hx hb dJ15_indexOf_2_14 (lv_at hl 0 rfl) ?_
          refine lv_iload hx hb dJ15_indexOf_2_16 (lv_at hl 1 rfl) ?_
          refine lv_icmp_gt (tgt := 119) hx hb dJ15_indexOf_2_18 (by decide) (fun c_18 => ?_) (fun c_18 => False.elim (by
            have c_18 := mt (ai_lt (a := (n - 1)) (b := (i + 2)) (rfl) (rfl) (by omega) (by omega)).mpr c_18
            omega))
          have c_18 := (ai_lt (a := (n - 1)) (b := (i + 2)) (rfl) (rfl) (by omega) (by omega)).mp c_18
          refine lv_iconst (v := -1) hx hb dJ15_indexOf_2_119 (by decide) ?_
          refine g_iretP hx hb hr hlocks ?_ dJ15_indexOf_2_120
          exact Or.inr ⟨rfl, fun j hj => hq j (by omega)⟩
        · skip
          have c_37 := mt (ai_lt (a := (n - 1)) (b := (i + 1)) (rfl) (rfl) (by omega) (by omega)).mpr c_37
          refine lv_aload_n hx hb dJ15_indexOf_2_40 rfl (lv_at hl 3 rfl) ?_
          refine lv_iload hx hb dJ15_indexOf_2_41 (lv_at hl 0 rfl) ?_
          refine gw_bald hx hb hal hB (i + 1) (rfl) (by omega) (by omega) dJ15_indexOf_2_43 ?_
          refine lv_iload hx hb dJ15_indexOf_2_44 (lv_at hl 2 rfl) ?_
          refine lv_icmp_eq (tgt := 52) hx hb dJ15_indexOf_2_46 (by decide) (fun c_46 => ?_) (fun c_46 => ?_)
          · skip
            have c_46 : f (i + 1) = nI ch := c_46
            refine lv_iload hx hb dJ15_indexOf_2_52 (lv_at hl 0 rfl) ?_
            refine lv_iload hx hb dJ15_indexOf_2_54 (lv_at hl 1 rfl) ?_
            refine lv_icmp_gt (tgt := 113) hx hb dJ15_indexOf_2_56 (by decide) (fun c_56 => False.elim (by
              have c_56 := (ai_lt (a := (n - 1)) (b := (i + 1)) (rfl) (rfl) (by omega) (by omega)).mp c_56
              omega)) (fun c_56 => ?_)
            have c_56 := mt (ai_lt (a := (n - 1)) (b := (i + 1)) (rfl) (rfl) (by omega) (by omega)).mpr c_56
            refine lv_iload hx hb dJ15_indexOf_2_59 (lv_at hl 0 rfl) ?_
            refine lv_iconst (v := 1) hx hb dJ15_indexOf_2_61 (by decide) ?_
            refine lv_iadd hx hb dJ15_indexOf_2_62 ?_
            refine g_topi (v := nI (i + 2)) (ai_add (a := (i + 1)) (b := 1) (rfl) (rfl)) ?_
            refine lv_istore hx hb dJ15_indexOf_2_63 hl (by decide) rfl (fun ls hl => ?_)
            have hl : lv_has ls 11 [(8, .int (nI (i + 2))), (7, .int (nI (i + 1))), (6, .int (nI (n - 1))), (5, .int (nI ch)), (0, .ref b), (1, .int (nI n)), (2, .ref b2), (3, .int 1), (4, .int 0)] := hl
            refine lv_iload hx hb dJ15_indexOf_2_65 (lv_at hl 0 rfl) ?_
            refine lv_iload_n hx hb dJ15_indexOf_2_67 rfl (lv_at hl 7 rfl) ?_
            refine lv_iadd hx hb dJ15_indexOf_2_68 ?_
            refine g_topi (v := nI (i + 3)) (ai_add (a := (i + 2)) (b := 1) (rfl) (rfl)) ?_
            refine lv_iconst (v := 1) hx hb dJ15_indexOf_2_69 (by decide) ?_
            refine lv_isub hx hb dJ15_indexOf_2_70 ?_
            refine g_topi (v := nI (i + 2)) (ai_sub (a := (i + 3)) (b := 1) (rfl) (rfl) (by omega)) ?_
            refine lv_istore hx hb dJ15_indexOf_2_71 hl (by decide) rfl (fun ls hl => ?_)
            have hl : lv_has ls 11 [(9, .int (nI (i + 2))), (8, .int (nI (i + 2))), (7, .int (nI (i + 1))), (6, .int (nI (n - 1))), (5, .int (nI ch)), (0, .ref b), (1, .int (nI n)), (2, .ref b2), (3, .int 1), (4, .int 0)] := hl
            refine lv_iconst (v := 1) hx hb dJ15_indexOf_2_73 (by decide) ?_
            refine lv_istore hx hb dJ15_indexOf_2_74 hl (by decide) rfl (fun ls hl => ?_)
            have hl : lv_has ls 11 [(10, .int 1), (9, .int (nI (i + 2))), (8, .int (nI (i + 2))), (7, .int (nI (i + 1))), (6, .int (nI (n - 1))), (5, .int (nI ch)), (0, .ref b), (1, .int (nI n)), (2, .ref b2), (3, .int 1), (4, .int 0)] := hl
            refine lv_iload hx hb dJ15_indexOf_2_76 (lv_at hl 2 rfl) ?_
            refine lv_iload hx hb dJ15_indexOf_2_78 (lv_at hl 1 rfl) ?_
            refine lv_icmp_ge (tgt := 103) hx hb dJ15_indexOf_2_80 (by decide) (fun c_80 => ?_) (fun c_80 => False.elim (by
              have c_80 := mt (ai_le (a := (i + 2)) (b := (i + 2)) (rfl) (rfl) (by omega) (by omega)).mpr c_80
              omega))
            have c_80 := (ai_le (a := (i + 2)) (b := (i + 2)) (rfl) (rfl) (by omega) (by omega)).mp c_80
            refine lv_iload hx hb dJ15_indexOf_2_103 (lv_at hl 2 rfl) ?_
            refine lv_iload hx hb dJ15_indexOf_2_105 (lv_at hl 1 rfl) ?_
            refine lv_icmp_ne (tgt := 113) hx hb dJ15_indexOf_2_107 (by decide) (fun c_107 => False.elim (by
              have c_107 := mt (ai_eq (a := (i + 2)) (b := (i + 2)) (rfl) (rfl) (by omega) (by omega)).mpr c_107
              omega)) (fun c_107 => ?_)
            have c_107 := (ai_eq (a := (i + 2)) (b := (i + 2)) (rfl) (rfl) (by omega) (by omega)).mp c_107
            refine lv_iload hx hb dJ15_indexOf_2_110 (lv_at hl 3 rfl) ?_
            refine g_iretP hx hb hr hlocks ?_ dJ15_indexOf_2_112
            exact Or.inl ⟨i + 1, rfl, by omega, c_46, fun j hj => hq j (by omega)⟩
          · skip
            have c_46 : ¬ f (i + 1) = nI ch := c_46
            refine lv_goto (tgt := 30) hx hb dJ15_indexOf_2_49 (by decide) ?_
            exact ih_loop (i + 1) (by omega) (fun j hj => by rcases Nat.lt_or_ge j (i + 1) with q | q; exact hq j (by omega); rw [show j = i + 1 by omega]; exact c_46) (by omega) ls (lv_sub hl [0, 1, 2, 3, 4, 5, 6, 7] rfl)
    exact loop _ 0 hn0 (fun j hj => by rw [show j = 0 by omega]; exact c_27) (Nat.lt_succ_self _) ls (lv_sub hl [0, 1, 2, 3, 4, 5, 6, 7] rfl)
set_option maxHeartbeats 1000000 in
theorem m_ixs (l : Launch) (z : State) (H0 : Heap) (b : Nat) (x : Nat) (n cap : Nat) (f : Nat → Int32) (w w2 : Bool) (b2 ch : Nat) {A : Nat → Prop} (k : Nat → Nat) (fv : Nat → Value) (hn0 : 0 < n) (hn : n ≤ cap) (hc9 : cap < 1000000) (hB : gI z w .byte H0 b cap f) (hstr2 : gS z w2 H0 x b2 [ch]) (hs : sS z k fv A H0) : Met l yJ5_indexOf_3 (ws_ yJ5_indexOf_3 cJ5_indexOf_3 8 (some .int)) { frames := 2, cells := 0, slots := 0, locals := 46 } (gPc z H0 [.ref b, .int 0, .int (nI n), .ref x, .int 0]) (gPi H0 (fun r => isIf f n ch r)) 0 0 gno := by
  refine g_start (by decide +kernel) (Nat.le_of_ble_eq_true rfl) ?_
  intro p e s m below meth c ls hx hb hr hlocks hml hown hname hts hwm hl
  have hown : s.vm.findClass "java/lang/String" = some m.cls := hown
  have hal : z.vm.Alike s.vm := hwm.alike
  have hCF : CallFix p m c cJ5_indexOf_3 8 s [.ref b, .int 0, .int (nI n), .ref x, .int 0].toArray lw_all "java/lang/String" := ⟨hx, hb, hml, hown, hts⟩
  have hl : lv_has ls 8 [(0, .ref b), (1, .int 0), (2, .int (nI n)), (3, .ref x), (4, .int 0)] := hl
  obtain ⟨h2, hz2, hO2, hB2, hT2⟩ := hstr2
  have hB2 : gI z w2 .byte H0 b2 1 (bof [ch]) := hB2
  have hch : ch < 128 := hT2.2 ch List.mem_cons_self
  refine lv_iload hx hb dJ5_indexOf_3_0 (lv_at hl 4 rfl) ?_
  refine lv_i2l hx hb dJ5_indexOf_3_2 rfl ?_
  refine g_topl (v := lN 0) (ai_i2l (rfl) (by omega)) ?_
  refine lv_iconst (v := 0) hx hb dJ5_indexOf_3_3 (by decide) ?_
  refine lv_iload_n hx hb dJ5_indexOf_3_4 rfl (lv_at hl 2 rfl) ?_
  refine gcS3_iP hCF hwm hl.1 (m_clamp0 l z H0  n (by omega) ) (lw_S q1596 q1597 q72 q1598) yd_J12_clamp ⟨Nat.le_of_ble_eq_true rfl, Nat.le_of_ble_eq_true rfl⟩ ⟨Nat.le_of_ble_eq_true rfl, Nat.le_of_ble_eq_true rfl⟩ (Nat.le_of_ble_eq_true rfl) dJ5_indexOf_3_5 (fun r_1 hp => ?_)
  subst hp
  refine lv_istore hx hb dJ5_indexOf_3_8 hl (by decide) rfl (fun ls hl => ?_)
  have hl : lv_has ls 8 [(4, .int 0), (0, .ref b), (1, .int 0), (2, .int (nI n)), (3, .ref x)] := hl
  refine lv_aload_n hx hb dJ5_indexOf_3_10 rfl (lv_at hl 4 rfl) ?_
  refine gcV0_iP hCF hwm hl.1 (m_length l z H0 x w2 b2 [ch] k fv ⟨h2, hz2, hO2, hB2, hT2⟩ hs ) (lw_V q573 q219 q220 q64 q221) ydv_J5_length (hO2.recv hal) ⟨Nat.le_of_ble_eq_true rfl, Nat.le_of_ble_eq_true rfl⟩ ⟨Nat.le_of_ble_eq_true rfl, Nat.le_of_ble_eq_true rfl⟩ (Nat.le_of_ble_eq_true rfl) dJ5_indexOf_3_11 (fun r_2 hp => ?_)
  subst hp
  refine lv_istore hx hb dJ5_indexOf_3_14 hl (by decide) rfl (fun ls hl => ?_)
  have hl : lv_has ls 8 [(5, .int (nI 1)), (4, .int 0), (0, .ref b), (1, .int 0), (2, .int (nI n)), (3, .ref x)] := hl
  refine lv_iload hx hb dJ5_indexOf_3_16 (lv_at hl 0 rfl) ?_
  refine lv_iload_n hx hb dJ5_indexOf_3_18 rfl (lv_at hl 4 rfl) ?_
  refine lv_iload hx hb dJ5_indexOf_3_19 (lv_at hl 1 rfl) ?_
  refine lv_isub hx hb dJ5_indexOf_3_21 ?_
  refine g_topi (v := nI n) (ai_sub (rfl) (rfl) (Nat.zero_le _)) ?_
  refine lv_icmp_le (tgt := 27) hx hb dJ5_indexOf_3_22 (by decide) (fun c_22 => ?_) (fun c_22 => False.elim (by
    have c_22 := mt (ai_le (a := 1) (b := n) (rfl) (rfl) (by omega) (by omega)).mpr c_22
    omega))
  have c_22 := (ai_le (a := 1) (b := n) (rfl) (rfl) (by omega) (by omega)).mp c_22
  refine lv_iload hx hb dJ5_indexOf_3_27 (lv_at hl 0 rfl) ?_
  refine lv_if_ne (tgt := 35) hx hb dJ5_indexOf_3_29 (by decide) (fun c_29 => ?_) (fun c_29 => absurd c_29 (by decide))
  refine lv_aload_n hx hb dJ5_indexOf_3_35 rfl (lv_at hl 5 rfl) ?_
  refine gw_get (C := RJ5) (T := TJ5) (N := 4) (v := .ref b2) hx hb hts in_J5 hown hal hO2 0 (by decide) (hts _ q523) (fun _ h9 => h9) rfl dJ5_indexOf_3_36 ?_
  refine lv_astore hx hb dJ5_indexOf_3_39 hl (by decide) rfl (fun ls hl => ?_)
  have hl : lv_has ls 8 [(6, .ref b2), (5, .int (nI 1)), (4, .int 0), (0, .ref b), (1, .int 0), (2, .int (nI n)), (3, .ref x)] := hl
  refine lv_aload_n hx hb dJ5_indexOf_3_41 rfl (lv_at hl 6 rfl) ?_
  refine gcV0_iP hCF hwm hl.1 (m_coder l z H0 x w2 b2 [ch] k fv ⟨h2, hz2, hO2, hB2, hT2⟩ hs ) (lw_V q222 q223 q224 q64 q225) ydv_J5_coder (hO2.recv hal) ⟨Nat.le_of_ble_eq_true rfl, Nat.le_of_ble_eq_true rfl⟩ ⟨Nat.le_of_ble_eq_true rfl, Nat.le_of_ble_eq_true rfl⟩ (Nat.le_of_ble_eq_true rfl) dJ5_indexOf_3_42 (fun r_3 hp => ?_)
  subst hp
  refine lv_istore hx hb dJ5_indexOf_3_45 hl (by decide) rfl (fun ls hl => ?_)
  have hl : lv_has ls 8 [(7, .int 0), (6, .ref b2), (5, .int (nI 1)), (4, .int 0), (0, .ref b), (1, .int 0), (2, .int (nI n)), (3, .ref x)] := hl
  refine lv_iload_n hx hb dJ5_indexOf_3_47 rfl (lv_at hl 5 rfl) ?_
  refine lv_iload hx hb dJ5_indexOf_3_48 (lv_at hl 0 rfl) ?_
  refine lv_icmp_ne (tgt := 83) hx hb dJ5_indexOf_3_50 (by decide) (fun c_50 => absurd (rfl) c_50) (fun c_50 => ?_)
  refine lv_iload_n hx hb dJ5_indexOf_3_53 rfl (lv_at hl 5 rfl) ?_
  refine lv_if_ne (tgt := 71) hx hb dJ5_indexOf_3_54 (by decide) (fun c_54 => absurd (rfl) c_54) (fun c_54 => ?_)
  refine lv_aload_n hx hb dJ5_indexOf_3_57 rfl (lv_at hl 4 rfl) ?_
  refine lv_iload_n hx hb dJ5_indexOf_3_58 rfl (lv_at hl 6 rfl) ?_
  refine lv_aload hx hb dJ5_indexOf_3_59 (lv_at hl 1 rfl) ?_
  refine lv_iload hx hb dJ5_indexOf_3_61 (lv_at hl 2 rfl) ?_
  refine lv_iload hx hb dJ5_indexOf_3_63 (lv_at hl 3 rfl) ?_
  refine gcS5_iP hCF hwm hl.1 (m_ixf l z H0 b b2 n cap f w w2 ch hn0 hn hc9 hch hB hB2 ) (lw_S q1611 q1612 q76 q1613) yd_J15_indexOf_2 ⟨Nat.le_of_ble_eq_true rfl, Nat.le_of_ble_eq_true rfl⟩ ⟨Nat.le_of_ble_eq_true rfl, Nat.le_of_ble_eq_true rfl⟩ (Nat.le_of_ble_eq_true rfl) dJ5_indexOf_3_65 (fun rr hp => ?_)
  have hN := hp
  refine lv_goto (tgt := 82) hx hb dJ5_indexOf_3_68 (by decide) ?_
  refine g_iretP hx hb hr hlocks ?_ dJ5_indexOf_3_82
  exact hN
set_option maxHeartbeats 1000000 in
theorem m_ix62 (l : Launch) (z : State) (H0 : Heap) (a : Nat) (x : Nat) (b cap : Nat) (T : List Nat) (w2 : Bool) (b2 : Nat) (ch : Nat) {A : Nat → Prop} (k : Nat → Nat) (fv : Nat → Value) (hg : gB z H0 a b cap T) (hstr2 : gS z w2 H0 x b2 [ch]) (hT0 : 0 < T.length) (hs : sS z k fv A H0) : Met l yJ6_indexOf_2 (ws_ yJ6_indexOf_2 cJ6_indexOf_2 3 (some .int)) { frames := 3, cells := 0, slots := 0, locals := 73 } (gPc z H0 [.ref a, .ref x, .int 0]) (gPi H0 (fun r => isIx T ch 0 r)) 0 0 gno := by
  refine g_start (by decide +kernel) (Nat.le_of_ble_eq_true rfl) ?_
  intro p e s m below meth c ls hx hb hr hlocks hml hown hname hts hwm hl
  have hown : s.vm.findClass "java/lang/AbstractStringBuilder" = some m.cls := hown
  have hal : z.vm.Alike s.vm := hwm.alike
  have hCF : CallFix p m c cJ6_indexOf_2 3 s [.ref a, .ref x, .int 0].toArray lw_all "java/lang/AbstractStringBuilder" := ⟨hx, hb, hml, hown, hts⟩
  have hl : lv_has ls 3 [(0, .ref a), (1, .ref x), (2, .int 0)] := hl
  obtain ⟨ml, f, hO, hB, hf, hF, hc, hc9, hT⟩ := hg
  obtain ⟨h2, hz2, hO2, hB2, hT2⟩ := hstr2
  have hB2 : gI z w2 .byte H0 b2 1 (bof [ch]) := hB2
  have hch : ch < 128 := hT2.2 ch List.mem_cons_self
  refine lv_aload_n hx hb dJ6_indexOf_2_0 rfl (lv_at hl 0 rfl) ?_
  refine gw_get (C := RJ7) (T := TJ7) (N := 4) (v := .ref b) hx hb hts in_J7 hown hal hO 0 (by decide) (hts _ q354) (fun _ h9 => h9) rfl dJ6_indexOf_2_1 ?_
  refine lv_aload_n hx hb dJ6_indexOf_2_4 rfl (lv_at hl 0 rfl) ?_
  refine gw_get (C := RJ7) (T := TJ7) (N := 4) (v := .int 0) hx hb hts in_J7 hown hal hO 1 (by decide) (hts _ q355) (fun _ h9 => h9) rfl dJ6_indexOf_2_5 ?_
  refine lv_aload_n hx hb dJ6_indexOf_2_8 rfl (lv_at hl 0 rfl) ?_
  refine gw_get (C := RJ7) (T := TJ7) (N := 4) (v := .int (nI T.length)) hx hb hts in_J7 hown hal hO 3 (by decide) (hts _ q358) (fun _ h9 => h9) rfl dJ6_indexOf_2_9 ?_
  refine lv_aload_n hx hb dJ6_indexOf_2_12 rfl (lv_at hl 1 rfl) ?_
  refine lv_iload_n hx hb dJ6_indexOf_2_13 rfl (lv_at hl 2 rfl) ?_
  refine gcS5_iP hCF hwm hl.1 (m_ixs l z H0 b x T.length cap f true w2 b2 ch k fv hT0 hc hc9 hB ⟨h2, hz2, hO2, hB2, hT2⟩ hs ) (lw_S q1593 q1594 q64 q1595) yd_J5_indexOf_3 ⟨Nat.le_of_ble_eq_true rfl, Nat.le_of_ble_eq_true rfl⟩ ⟨Nat.le_of_ble_eq_true rfl, Nat.le_of_ble_eq_true rfl⟩ (Nat.le_of_ble_eq_true rfl) dJ6_indexOf_2_14 (fun rr hp => ?_)
  have hN := hp.ix hch hT hf
  refine g_iretP hx hb hr hlocks ?_ dJ6_indexOf_2_17
  exact hN
set_option maxHeartbeats 1000000 in
theorem m_ix72 (l : Launch) (z : State) (H0 : Heap) (a : Nat) (x : Nat) (b cap : Nat) (T : List Nat) (w2 : Bool) (b2 : Nat) (ch : Nat) {A : Nat → Prop} (k : Nat → Nat) (fv : Nat → Value) (hg : gB z H0 a b cap T) (hstr2 : gS z w2 H0 x b2 [ch]) (hT0 : 0 < T.length) (hs : sS z k fv A H0) : Met l yJ7_indexOf_2 (ws_ yJ7_indexOf_2 cJ7_indexOf_2 3 (some .int)) { frames := 4, cells := 0, slots := 0, locals := 95 } (gPc z H0 [.ref a, .ref x, .int 0]) (gPi H0 (fun r => isIx T ch 0 r)) 0 0 gno := by
  refine g_start (by decide +kernel) (Nat.le_of_ble_eq_true rfl) ?_
  intro p e s m below meth c ls hx hb hr hlocks hml hown hname hts hwm hl
  have hown : s.vm.findClass "java/lang/StringBuilder" = some m.cls := hown
  have hal : z.vm.Alike s.vm := hwm.alike
  have hCF : CallFix p m c cJ7_indexOf_2 3 s [.ref a, .ref x, .int 0].toArray lw_all "java/lang/StringBuilder" := ⟨hx, hb, hml, hown, hts⟩
  have hl : lv_has ls 3 [(0, .ref a), (1, .ref x), (2, .int 0)] := hl
  obtain ⟨ml, f, hO, hB, hf, hF, hc, hc9, hT⟩ := hg
  obtain ⟨h2, hz2, hO2, hB2, hT2⟩ := hstr2
  have hB2 : gI z w2 .byte H0 b2 1 (bof [ch]) := hB2
  have hch : ch < 128 := hT2.2 ch List.mem_cons_self
  refine lv_aload_n hx hb dJ7_indexOf_2_0 rfl (lv_at hl 0 rfl) ?_
  refine lv_aload_n hx hb dJ7_indexOf_2_1 rfl (lv_at hl 1 rfl) ?_
  refine lv_iload_n hx hb dJ7_indexOf_2_2 rfl (lv_at hl 2 rfl) ?_
  refine gcSU2_iP hCF hwm hl.1 (m_ix62 l z H0 a x b cap T w2 b2 ch k fv ⟨ml, f, hO, hB, hf, hF, hc, hc9, hT⟩ ⟨h2, hz2, hO2, hB2, hT2⟩ hT0 hs ) (lw_app (lw_list5 q1591 q1587 q249 q1586 q66) (lw_meth q1592)) ydu_J6_indexOf_2 (hO.recv hal) ((w_classAt hts q192).choose_spec) ⟨Nat.le_of_ble_eq_true rfl, Nat.le_of_ble_eq_true rfl⟩ ⟨Nat.le_of_ble_eq_true rfl, Nat.le_of_ble_eq_true rfl⟩ (Nat.le_of_ble_eq_true rfl) dJ7_indexOf_2_3 (fun rr hp => ?_)
  have hN := hp
  refine g_iretP hx hb hr hlocks ?_ dJ7_indexOf_2_6
  exact hN
set_option maxHeartbeats 1000000 in
theorem m_ix6 (l : Launch) (z : State) (H0 : Heap) (a : Nat) (x : Nat) (b cap : Nat) (T : List Nat) (w2 : Bool) (b2 : Nat) (ch : Nat) {A : Nat → Prop} (k : Nat → Nat) (fv : Nat → Value) (hg : gB z H0 a b cap T) (hstr2 : gS z w2 H0 x b2 [ch]) (hT0 : 0 < T.length) (hs : sS z k fv A H0) : Met l yJ6_indexOf (ws_ yJ6_indexOf cJ6_indexOf 2 (some .int)) { frames := 5, cells := 0, slots := 0, locals := 117 } (gPc z H0 [.ref a, .ref x]) (gPi H0 (fun r => isIx T ch 0 r)) 0 0 gno := by
  refine g_start (by decide +kernel) (Nat.le_of_ble_eq_true rfl) ?_
  intro p e s m below meth c ls hx hb hr hlocks hml hown hname hts hwm hl
  have hown : s.vm.findClass "java/lang/AbstractStringBuilder" = some m.cls := hown
  have hal : z.vm.Alike s.vm := hwm.alike
  have hCF : CallFix p m c cJ6_indexOf 2 s [.ref a, .ref x].toArray lw_all "java/lang/AbstractStringBuilder" := ⟨hx, hb, hml, hown, hts⟩
  have hl : lv_has ls 2 [(0, .ref a), (1, .ref x)] := hl
  obtain ⟨ml, f, hO, hB, hf, hF, hc, hc9, hT⟩ := hg
  obtain ⟨h2, hz2, hO2, hB2, hT2⟩ := hstr2
  have hB2 : gI z w2 .byte H0 b2 1 (bof [ch]) := hB2
  have hch : ch < 128 := hT2.2 ch List.mem_cons_self
  refine lv_aload_n hx hb dJ6_indexOf_0 rfl (lv_at hl 0 rfl) ?_
  refine lv_aload_n hx hb dJ6_indexOf_1 rfl (lv_at hl 1 rfl) ?_
  refine lv_iconst (v := 0) hx hb dJ6_indexOf_2 (by decide) ?_
  refine gcX2_iP hCF hwm hl.1 (m_ix72 l z H0 a x b cap T w2 b2 ch k fv ⟨ml, f, hO, hB, hf, hF, hc, hc9, hT⟩ ⟨h2, hz2, hO2, hB2, hT2⟩ hT0 hs ) (va_cwO (owner := "java/lang/AbstractStringBuilder") (x := ⟨"java/lang/AbstractStringBuilder", "indexOf", "(Ljava/lang/String;I)I"⟩) 2 hts (lw_app (lw_list6 q1585 q1587 q1586 q1588 q1589 q67) (lw_meth q1590)) rfl rfl rfl q1592 ⟨by decide, by decide, by decide +kernel⟩ ⟨Nat.le_of_ble_eq_true rfl, Nat.le_of_ble_eq_true rfl⟩) (hO.recv hal) ⟨Nat.le_of_ble_eq_true rfl, Nat.le_of_ble_eq_true rfl⟩ (Nat.le_of_ble_eq_true rfl) dJ6_indexOf_3 (fun rr hp => ?_)
  have hN := hp
  refine g_iretP hx hb hr hlocks ?_ dJ6_indexOf_6
  exact hN
set_option maxHeartbeats 1000000 in
theorem m_sbIndexOf (l : Launch) (z : State) (H0 : Heap) (a : Nat) (x : Nat) (b cap : Nat) (T : List Nat) (w2 : Bool) (b2 : Nat) (ch : Nat) {A : Nat → Prop} (k : Nat → Nat) (fv : Nat → Value) (hg : gB z H0 a b cap T) (hstr2 : gS z w2 H0 x b2 [ch]) (hT0 : 0 < T.length) (hs : sS z k fv A H0) : Met l yJ7_indexOf (ws_ yJ7_indexOf cJ7_indexOf 2 (some .int)) { frames := 6, cells := 0, slots := 0, locals := 138 } (gPc z H0 [.ref a, .ref x]) (gPi H0 (fun r => isIx T ch 0 r)) 0 0 gno := by
  refine g_start (by decide +kernel) (Nat.le_of_ble_eq_true rfl) ?_
  intro p e s m below meth c ls hx hb hr hlocks hml hown hname hts hwm hl
  have hown : s.vm.findClass "java/lang/StringBuilder" = some m.cls := hown
  have hal : z.vm.Alike s.vm := hwm.alike
  have hCF : CallFix p m c cJ7_indexOf 2 s [.ref a, .ref x].toArray lw_all "java/lang/StringBuilder" := ⟨hx, hb, hml, hown, hts⟩
  have hl : lv_has ls 2 [(0, .ref a), (1, .ref x)] := hl
  obtain ⟨ml, f, hO, hB, hf, hF, hc, hc9, hT⟩ := hg
  obtain ⟨h2, hz2, hO2, hB2, hT2⟩ := hstr2
  have hB2 : gI z w2 .byte H0 b2 1 (bof [ch]) := hB2
  have hch : ch < 128 := hT2.2 ch List.mem_cons_self
  refine lv_aload_n hx hb dJ7_indexOf_0 rfl (lv_at hl 0 rfl) ?_
  refine lv_aload_n hx hb dJ7_indexOf_1 rfl (lv_at hl 1 rfl) ?_
  refine gcSU1_iP hCF hwm hl.1 (m_ix6 l z H0 a x b cap T w2 b2 ch k fv ⟨ml, f, hO, hB, hf, hF, hc, hc9, hT⟩ ⟨h2, hz2, hO2, hB2, hT2⟩ hT0 hs ) (lw_app (lw_list5 q1582 q2443 q249 q1583 q66) (lw_meth q1584)) ydu_J6_indexOf (hO.recv hal) ((w_classAt hts q192).choose_spec) ⟨Nat.le_of_ble_eq_true rfl, Nat.le_of_ble_eq_true rfl⟩ ⟨Nat.le_of_ble_eq_true rfl, Nat.le_of_ble_eq_true rfl⟩ (Nat.le_of_ble_eq_true rfl) dJ7_indexOf_2 (fun rr hp => ?_)
  have hN := hp
  refine g_iretP hx hb hr hlocks ?_ dJ7_indexOf_5
  exact hN
set_option maxHeartbeats 1000000 in
theorem m_lastL (l : Launch) (z : State) (H0 : Heap) (b : Nat) (ch : Nat) (w : Bool) (T : List Nat) (hc : ch < 128) (hno : ∀ i, i < T.length → T.getD i 0 ≠ ch) (hB : gI z w .byte H0 b T.length (bof T)) (hT : tx T) : Met l yJ15_lastIndexOf (ws_ yJ15_lastIndexOf cJ15_lastIndexOf 4 (some .int)) { frames := 1, cells := 0, slots := 0, locals := 21 } (gPc z H0 [.ref b, .int (nI ch), .int (iI ((T.length : Int) - 1))]) (gPi H0 (fun r => r = -1)) 0 0 gno := by
  refine g_start (by decide +kernel) (Nat.le_of_ble_eq_true rfl) ?_
  intro p e s m below meth c ls hx hb hr hlocks hml hown hname hts hwm hl
  have hown : s.vm.findClass "java/lang/StringLatin1" = some m.cls := hown
  have hal : z.vm.Alike s.vm := hwm.alike
  have hCF : CallFix p m c cJ15_lastIndexOf 4 s [.ref b, .int (nI ch), .int (iI ((T.length : Int) - 1))].toArray lw_all "java/lang/StringLatin1" := ⟨hx, hb, hml, hown, hts⟩
  have hl : lv_has ls 4 [(0, .ref b), (1, .int (nI ch)), (2, .int (iI ((T.length : Int) - 1)))] := hl
  have hT1 := hT.1
  refine lv_iload_n hx hb dJ15_lastIndexOf_0 rfl (lv_at hl 1 rfl) ?_
  refine gcS1_iP hCF hwm hl.1 (m_canEncI l z H0  ch hc ) (lw_S q577 q578 q76 q579) yd_J15_canEncode ⟨Nat.le_of_ble_eq_true rfl, Nat.le_of_ble_eq_true rfl⟩ ⟨Nat.le_of_ble_eq_true rfl, Nat.le_of_ble_eq_true rfl⟩ (Nat.le_of_ble_eq_true rfl) dJ15_lastIndexOf_1 (fun r_1 hp => ?_)
  subst hp
  refine lv_if_ne (tgt := 9) hx hb dJ15_lastIndexOf_4 (by decide) (fun c_4 => ?_) (fun c_4 => absurd c_4 (by decide))
  refine lv_iload_n hx hb dJ15_lastIndexOf_9 rfl (lv_at hl 2 rfl) ?_
  refine lv_aload_n hx hb dJ15_lastIndexOf_10 rfl (lv_at hl 0 rfl) ?_
  refine gw_len hx hb hal hB dJ15_lastIndexOf_11 ?_
  refine lv_iconst (v := 1) hx hb dJ15_lastIndexOf_12 (by decide) ?_
  refine lv_isub hx hb dJ15_lastIndexOf_13 ?_
  refine g_topi (v := iI ((T.length : Nat) - 1)) (ai_subI (a := (T.length : Nat)) (b := 1) (nI_iI _) (by decide)) ?_
  refine gcS2_iP hCF hwm hl.1 (m_minI l z H0 (iI ((T.length : Int) - 1)) (iI ((T.length : Nat) - 1))  ) (lw_S q581 q284 q72 q285) yd_J12_min ⟨Nat.le_of_ble_eq_true rfl, Nat.le_of_ble_eq_true rfl⟩ ⟨Nat.le_of_ble_eq_true rfl, Nat.le_of_ble_eq_true rfl⟩ (Nat.le_of_ble_eq_true rfl) dJ15_lastIndexOf_14 (fun r_2 hp => ?_)
  subst hp
  rw [show (if iI (((T.length) : Nat) - (1 : Int)) < iI ((T.length : Int) - 1) then iI (((T.length) : Nat) - (1 : Int)) else iI ((T.length : Int) - 1)) = iI ((T.length : Int) - 1) by split <;> rfl]
  refine lv_istore_n hx hb dJ15_lastIndexOf_17 rfl hl (by decide) rfl (fun ls hl => ?_)
  have hl : lv_has ls 4 [(3, .int (iI ((T.length : Int) - 1))), (0, .ref b), (1, .int (nI ch)), (2, .int (iI ((T.length : Int) - 1)))] := hl
  have loop : ∀ (n_ : Nat) (i : Nat), (i ≤ T.length) → (i) < n_ → ∀ (ls : Array Slot), lv_has ls 4 [(3, .int (iI ((i : Int) - 1))), (0, .ref b), (1, .int (nI ch)), (2, .int (iI ((T.length : Int) - 1)))] → W p l e { frames := 1, cells := 0, slots := 0, locals := 21 } s m [.ref b, .int (nI ch), .int (iI ((T.length : Int) - 1))].toArray below meth c H0 [] 0 0 (MQ below (gPi H0 (fun r => r = -1)) [.ref b, .int (nI ch), .int (iI ((T.length : Int) - 1))].toArray s 0 0 (gno)) (F0 m 18 ls []) := by
    intro n_
    induction n_ with
    | zero => intro i hi hm_; exact absurd hm_ (Nat.not_lt_zero _)
    | succ n_ ih_loop =>
      intro i hi hm_ ls hl
      refine lv_iload_n hx hb dJ15_lastIndexOf_18 rfl (lv_at hl 0 rfl) ?_
      refine lv_if_lt (tgt := 38) hx hb dJ15_lastIndexOf_19 (by decide) (fun c_19 => ?_) (fun c_19 => ?_)
      · skip
        have c_19 := (ai_ltI (a := ((i : Int) - 1)) (b := 0) (rfl) (by decide) (by omega) (by omega) (by omega) (by omega)).mp c_19
        refine lv_iconst (v := -1) hx hb dJ15_lastIndexOf_38 (by decide) ?_
        refine g_iretP hx hb hr hlocks ?_ dJ15_lastIndexOf_39
        rfl
      · skip
        have c_19 := mt (ai_ltI (a := ((i : Int) - 1)) (b := 0) (rfl) (by decide) (by omega) (by omega) (by omega) (by omega)).mpr c_19
        replace hl : lv_has ls 4 [(3, .int (nI (i - 1))), (0, .ref b), (1, .int (nI ch)), (2, .int (iI ((T.length : Int) - 1)))] := by
          rw [nI_iI, show ((i - 1 : Nat) : Int) = (i : Int) - 1 by omega]
          exact hl
        refine lv_aload_n hx hb dJ15_lastIndexOf_22 rfl (lv_at hl 1 rfl) ?_
        refine lv_iload_n hx hb dJ15_lastIndexOf_23 rfl (lv_at hl 0 rfl) ?_
        refine gw_bald hx hb hal hB (i - 1) (rfl) (by omega) (by omega) dJ15_lastIndexOf_24 ?_
        refine g_topi (v := (nI (T.getD (i - 1) 0))) rfl ?_
        have q1 := tx_at hT (i - 1)
        refine lv_iload_n hx hb dJ15_lastIndexOf_25 rfl (lv_at hl 2 rfl) ?_
        refine lv_i2b hx hb dJ15_lastIndexOf_26 rfl ?_
        refine g_topi (v := nI ch) (ai_i2b (rfl) (by omega)) ?_
        refine lv_icmp_ne (tgt := 32) hx hb dJ15_lastIndexOf_27 (by decide) (fun c_27 => ?_) (fun c_27 => False.elim (by
          have c_27 := (ai_eq (a := (T.getD (i - 1) 0)) (b := ch) (rfl) (rfl) (by omega) (by omega)).mp c_27
          exact absurd c_27 (hno (i - 1) (by omega))))
        have c_27 := mt (ai_eq (a := (T.getD (i - 1) 0)) (b := ch) (rfl) (rfl) (by omega) (by omega)).mpr c_27
        refine lv_iinc (k := 0) (v := (iI (((i - 1 : Nat) : Int) + -1))) hx hb dJ15_lastIndexOf_32 hl rfl (by rw [nI_iI, show Int32.ofInt (-1) = iI (-1) from rfl, iI_add]) (by decide) rfl (fun ls hl => ?_)
        have hl : lv_has ls 4 [(3, .int (iI (((i - 1 : Nat) : Int) + -1))), (0, .ref b), (1, .int (nI ch)), (2, .int (iI ((T.length : Int) - 1)))] := hl
        refine lv_goto (tgt := 18) hx hb dJ15_lastIndexOf_35 (by decide) ?_
        replace hl : lv_has ls 4 [(3, .int (iI (((i - 1 : Nat) : Int) - 1))), (0, .ref b), (1, .int (nI ch)), (2, .int (iI ((T.length : Int) - 1)))] := by
          exact hl
        exact ih_loop (i - 1) (by omega) (by omega) ls (lv_sub hl [0, 1, 2, 3] rfl)
  exact loop _ T.length (Nat.le_refl _) (Nat.lt_succ_self _) ls (lv_sub hl [0, 1, 2, 3] rfl)
set_option maxHeartbeats 1000000 in
theorem m_last2 (l : Launch) (z : State) (H0 : Heap) (a : Nat) (ch : Nat) (w : Bool) (b : Nat) (T : List Nat) {A : Nat → Prop} (k : Nat → Nat) (fv : Nat → Value) (hc : ch < 128) (hno : ∀ i, i < T.length → T.getD i 0 ≠ ch) (hstr : gS z w H0 a b T) (hs : sS z k fv A H0) : Met l yJ5_lastIndexOf_2 (ws_ yJ5_lastIndexOf_2 cJ5_lastIndexOf_2 3 (some .int)) { frames := 2, cells := 0, slots := 0, locals := 44 } (gPc z H0 [.ref a, .int (nI ch), .int (iI ((T.length : Int) - 1))]) (gPi H0 (fun r => r = -1)) 0 0 gno := by
  refine g_start (by decide +kernel) (Nat.le_of_ble_eq_true rfl) ?_
  intro p e s m below meth c ls hx hb hr hlocks hml hown hname hts hwm hl
  have hown : s.vm.findClass "java/lang/String" = some m.cls := hown
  have hal : z.vm.Alike s.vm := hwm.alike
  have hCF : CallFix p m c cJ5_lastIndexOf_2 3 s [.ref a, .int (nI ch), .int (iI ((T.length : Int) - 1))].toArray lw_all "java/lang/String" := ⟨hx, hb, hml, hown, hts⟩
  have hl : lv_has ls 3 [(0, .ref a), (1, .int (nI ch)), (2, .int (iI ((T.length : Int) - 1)))] := hl
  obtain ⟨h, hzz, hO, hB, hT⟩ := hstr
  refine lv_aload_n hx hb dJ5_lastIndexOf_2_0 rfl (lv_at hl 0 rfl) ?_
  refine gcV0_iP hCF hwm hl.1 (m_isLatin1 l z H0 a w b T k fv ⟨h, hzz, hO, hB, hT⟩ hs ) (lw_V q542 q543 q544 q64 q545) ydv_J5_isLatin1 (hO.recv hal) ⟨Nat.le_of_ble_eq_true rfl, Nat.le_of_ble_eq_true rfl⟩ ⟨Nat.le_of_ble_eq_true rfl, Nat.le_of_ble_eq_true rfl⟩ (Nat.le_of_ble_eq_true rfl) dJ5_lastIndexOf_2_1 (fun r_1 hp => ?_)
  subst hp
  refine lv_if_eq (tgt := 19) hx hb dJ5_lastIndexOf_2_4 (by decide) (fun c_4 => absurd c_4 (by decide)) (fun c_4 => ?_)
  refine lv_aload_n hx hb dJ5_lastIndexOf_2_7 rfl (lv_at hl 0 rfl) ?_
  refine gw_get (C := RJ5) (T := TJ5) (N := 4) (v := .ref b) hx hb hts in_J5 hown hal hO 0 (by decide) (hts _ q523) (fun _ h9 => h9) rfl dJ5_lastIndexOf_2_8 ?_
  refine lv_iload_n hx hb dJ5_lastIndexOf_2_11 rfl (lv_at hl 1 rfl) ?_
  refine lv_iload_n hx hb dJ5_lastIndexOf_2_12 rfl (lv_at hl 2 rfl) ?_
  refine gcS3_iP hCF hwm hl.1 (m_lastL l z H0 b ch w T hc hno hB hT ) (lw_S q1645 q1646 q76 q1647) yd_J15_lastIndexOf ⟨Nat.le_of_ble_eq_true rfl, Nat.le_of_ble_eq_true rfl⟩ ⟨Nat.le_of_ble_eq_true rfl, Nat.le_of_ble_eq_true rfl⟩ (Nat.le_of_ble_eq_true rfl) dJ5_lastIndexOf_2_13 (fun rr hp => ?_)
  have hN := hp
  refine lv_goto (tgt := 28) hx hb dJ5_lastIndexOf_2_16 (by decide) ?_
  refine g_iretP hx hb hr hlocks ?_ dJ5_lastIndexOf_2_28
  exact hN
set_option maxHeartbeats 1000000 in
theorem m_last (l : Launch) (z : State) (H0 : Heap) (a : Nat) (ch : Nat) (w : Bool) (b : Nat) (T : List Nat) {A : Nat → Prop} (k : Nat → Nat) (fv : Nat → Value) (hc : ch < 128) (hno : ∀ i, i < T.length → T.getD i 0 ≠ ch) (hstr : gS z w H0 a b T) (hs : sS z k fv A H0) : Met l yJ5_lastIndexOf (ws_ yJ5_lastIndexOf cJ5_lastIndexOf 2 (some .int)) { frames := 3, cells := 0, slots := 0, locals := 66 } (gPc z H0 [.ref a, .int (nI ch)]) (gPi H0 (fun r => r = -1)) 0 0 gno := by
  refine g_start (by decide +kernel) (Nat.le_of_ble_eq_true rfl) ?_
  intro p e s m below meth c ls hx hb hr hlocks hml hown hname hts hwm hl
  have hown : s.vm.findClass "java/lang/String" = some m.cls := hown
  have hal : z.vm.Alike s.vm := hwm.alike
  have hCF : CallFix p m c cJ5_lastIndexOf 2 s [.ref a, .int (nI ch)].toArray lw_all "java/lang/String" := ⟨hx, hb, hml, hown, hts⟩
  have hl : lv_has ls 2 [(0, .ref a), (1, .int (nI ch))] := hl
  obtain ⟨h, hzz, hO, hB, hT⟩ := hstr
  refine lv_aload_n hx hb dJ5_lastIndexOf_0 rfl (lv_at hl 0 rfl) ?_
  refine lv_iload_n hx hb dJ5_lastIndexOf_1 rfl (lv_at hl 1 rfl) ?_
  refine lv_aload_n hx hb dJ5_lastIndexOf_2 rfl (lv_at hl 0 rfl) ?_
  refine gcV0_iP hCF hwm hl.1 (m_length l z H0 a w b T k fv ⟨h, hzz, hO, hB, hT⟩ hs ) (lw_V q573 q219 q220 q64 q221) ydv_J5_length (hO.recv hal) ⟨Nat.le_of_ble_eq_true rfl, Nat.le_of_ble_eq_true rfl⟩ ⟨Nat.le_of_ble_eq_true rfl, Nat.le_of_ble_eq_true rfl⟩ (Nat.le_of_ble_eq_true rfl) dJ5_lastIndexOf_3 (fun r_1 hp => ?_)
  subst hp
  refine lv_iconst (v := 1) hx hb dJ5_lastIndexOf_6 (by decide) ?_
  refine lv_isub hx hb dJ5_lastIndexOf_7 ?_
  refine g_topi (v := (iI ((T.length : Int) - 1))) ?_ ?_
  · skip
    rw [nI_iI, show (1 : Int32) = iI 1 from rfl, iI_sub]
  refine gcV2_iP hCF hwm hl.1 (m_last2 l z H0 a ch w b T k fv hc hno ⟨h, hzz, hO, hB, hT⟩ hs ) (lw_V q1641 q1642 q1643 q64 q1644) ydv_J5_lastIndexOf_2 (hO.recv hal) ⟨Nat.le_of_ble_eq_true rfl, Nat.le_of_ble_eq_true rfl⟩ ⟨Nat.le_of_ble_eq_true rfl, Nat.le_of_ble_eq_true rfl⟩ (Nat.le_of_ble_eq_true rfl) dJ5_lastIndexOf_8 (fun rr hp => ?_)
  have hN := hp
  refine g_iretP hx hb hr hlocks ?_ dJ5_lastIndexOf_11
  exact hN
set_option maxHeartbeats 1000000 in
theorem m_toStrJR (l : Launch) (z : State) (H0 : Heap)  (v : Int) (k : Nat → Nat) (fv : Nat → Value) (h1 : -9223372036854775808 ≤ v) (h2 : v < 9223372036854775808) (hs : sS z k fv (gfr H0) H0) : Met l yJ16_toString (ws_ yJ16_toString cJ16_toString 6 (some (.object "java/lang/String"))) { frames := 3, cells := 2, slots := (4 + (sdg v).length), locals := 57 } (gPc z H0 [.long (lI v), .int 10]) (gRr (gfr H0) H0 (fun r H1 => H0.size ≤ r ∧ ∃ b1, H0.size ≤ b1 ∧ gS z true H1 r b1 (sdg v))) 2 (4 + (sdg v).length) (gfr H0) := by
  refine g_start (by decide +kernel) (Nat.le_of_ble_eq_true rfl) ?_
  intro p e s m below meth c ls hx hb hr hlocks hml hown hname hts hwm hl
  have hown : s.vm.findClass "java/lang/Long" = some m.cls := hown
  have hal : z.vm.Alike s.vm := hwm.alike
  have hCF : CallFix p m c cJ16_toString 6 s [.long (lI v), .int 10].toArray lw_all "java/lang/Long" := ⟨hx, hb, hml, hown, hts⟩
  have hl : lv_has ls 6 [(0, .long (lI v)), (2, .int 10)] := hl
  have hS : va_S (gfr H0) H0 H0 [] := va_S.rf
  refine lv_iload_n hx hb dJ16_toString_0 rfl (lv_at hl 1 rfl) ?_
  refine lv_iconst (v := 2) hx hb dJ16_toString_1 (by decide) ?_
  refine lv_icmp_lt (tgt := 11) hx hb dJ16_toString_2 (by decide) (fun c_2 => absurd c_2 (by decide)) (fun c_2 => ?_)
  refine lv_iload_n hx hb dJ16_toString_5 rfl (lv_at hl 1 rfl) ?_
  refine lv_bipush (v := 36) hx hb dJ16_toString_6 (by decide) ?_
  refine lv_icmp_le (tgt := 14) hx hb dJ16_toString_8 (by decide) (fun c_8 => ?_) (fun c_8 => absurd (by decide) c_8)
  refine lv_iload_n hx hb dJ16_toString_14 rfl (lv_at hl 1 rfl) ?_
  refine lv_bipush (v := 10) hx hb dJ16_toString_15 (by decide) ?_
  refine lv_icmp_ne (tgt := 25) hx hb dJ16_toString_17 (by decide) (fun c_17 => absurd (rfl) c_17) (fun c_17 => ?_)
  refine lv_lload_n hx hb dJ16_toString_20 rfl (lv_at hl 0 rfl) ?_
  refine gcS1_r hCF hwm hl.1 (m_toStrJ l z H0  v k fv h1 h2 hs ) (lw_S q1381 q1382 q77 q1383) yd_J16_toString_2 hS (fun q h => Nat.le_trans hS.1 h) ⟨Nat.le_of_ble_eq_true rfl, Nat.le_of_ble_eq_true rfl⟩ ⟨by first | omega | (dsimp only; omega), by first | omega | (dsimp only; omega)⟩ (Nat.le_of_ble_eq_true rfl) dJ16_toString_21 (fun rs H_1 locs hp hex hS => ?_)
  have sz_H_1 : H0.size ≤ H_1.size := hex.1
  have hgx := hex.x
  clear hex
  have hN := hp
  refine g_aret hx hb hr hlocks (Or.inl ⟨_, rfl⟩) hS (by first | omega | (dsimp only; omega)) (by first | omega | (dsimp only; omega)) ?_ dJ16_toString_24
  exact hN
