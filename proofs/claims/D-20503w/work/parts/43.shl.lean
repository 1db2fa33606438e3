/-! ## walks (written by tools) -/
set_option maxRecDepth 100000
def dkwJ22_shiftLeft_2_6 : List UInt8 := [21, 6, 96, 42, 21, 9, 46, 29, 120, 79, 25, 5, 176]
abbrev dktJ22_shiftLeft_2_6 : List UInt8 := dkwJ22_shiftLeft_2_6 ++ []
def dkwJ22_shiftLeft_2_5 : List UInt8 := [4, 96, 25, 5, 190, 184, 2, 99, 87, 25, 5, 42, 21, 6, 29, 21, 9, 184, 2, 106, 25, 5, 21, 9]
abbrev dktJ22_shiftLeft_2_5 : List UInt8 := dkwJ22_shiftLeft_2_5 ++ dktJ22_shiftLeft_2_6
def dkwJ22_shiftLeft_2_4 : List UInt8 := [21, 4, 4, 100, 54, 9, 3, 21, 9, 4, 96, 42, 190, 184, 2, 99, 87, 21, 6, 21, 9, 21, 6, 96]
abbrev dktJ22_shiftLeft_2_4 : List UInt8 := dkwJ22_shiftLeft_2_4 ++ dktJ22_shiftLeft_2_5
def dkwJ22_shiftLeft_2_3 : List UInt8 := [58, 5, 25, 5, 21, 6, 132, 6, 1, 21, 8, 79, 167, 0, 11, 21, 4, 28, 96, 188, 10, 58, 5]
abbrev dktJ22_shiftLeft_2_3 : List UInt8 := dkwJ22_shiftLeft_2_3 ++ dktJ22_shiftLeft_2_4
def dkwJ22_shiftLeft_2_2 : List UInt8 := [54, 7, 42, 3, 46, 21, 7, 124, 54, 8, 21, 8, 153, 0, 26, 21, 4, 28, 96, 4, 96, 188, 10]
abbrev dktJ22_shiftLeft_2_2 : List UInt8 := dkwJ22_shiftLeft_2_2 ++ dktJ22_shiftLeft_2_3
def dkwJ22_shiftLeft_2_1 : List UInt8 := [188, 10, 58, 5, 42, 3, 25, 5, 3, 21, 4, 184, 1, 132, 167, 0, 114, 3, 54, 6, 16, 32, 29, 100]
abbrev dktJ22_shiftLeft_2_1 : List UInt8 := dkwJ22_shiftLeft_2_1 ++ dktJ22_shiftLeft_2_2
def dkwJ22_shiftLeft_2_0 : List UInt8 := [27, 8, 124, 61, 27, 16, 31, 126, 62, 42, 190, 54, 4, 1, 58, 5, 29, 154, 0, 24, 21, 4, 28, 96]
abbrev dktJ22_shiftLeft_2_0 : List UInt8 := dkwJ22_shiftLeft_2_0 ++ dktJ22_shiftLeft_2_1
theorem dksJ22_shiftLeft_2_0 : cJ22_shiftLeft_2.data.toList.drop 0 = dktJ22_shiftLeft_2_0 := by decide +kernel
theorem dksJ22_shiftLeft_2_1 : cJ22_shiftLeft_2.data.toList.drop 24 = dktJ22_shiftLeft_2_1 := dk_seg dksJ22_shiftLeft_2_0 24 rfl rfl
theorem dksJ22_shiftLeft_2_2 : cJ22_shiftLeft_2.data.toList.drop 48 = dktJ22_shiftLeft_2_2 := dk_seg dksJ22_shiftLeft_2_1 24 rfl rfl
theorem dksJ22_shiftLeft_2_3 : cJ22_shiftLeft_2.data.toList.drop 71 = dktJ22_shiftLeft_2_3 := dk_seg dksJ22_shiftLeft_2_2 23 rfl rfl
theorem dksJ22_shiftLeft_2_4 : cJ22_shiftLeft_2.data.toList.drop 94 = dktJ22_shiftLeft_2_4 := dk_seg dksJ22_shiftLeft_2_3 23 rfl rfl
theorem dksJ22_shiftLeft_2_5 : cJ22_shiftLeft_2.data.toList.drop 118 = dktJ22_shiftLeft_2_5 := dk_seg dksJ22_shiftLeft_2_4 24 rfl rfl
theorem dksJ22_shiftLeft_2_6 : cJ22_shiftLeft_2.data.toList.drop 142 = dktJ22_shiftLeft_2_6 := dk_seg dksJ22_shiftLeft_2_5 24 rfl rfl
theorem dJ22_shiftLeft_2_0 : decode cJ22_shiftLeft_2 0 = .ok (.iload_n 1, 1) := dk_27 (dk_at dksJ22_shiftLeft_2_0 0 rfl rfl)
theorem dJ22_shiftLeft_2_1 : decode cJ22_shiftLeft_2 1 = .ok (.iconst 5, 1) := dk_8 (dk_at dksJ22_shiftLeft_2_0 1 rfl rfl)
theorem dJ22_shiftLeft_2_2 : decode cJ22_shiftLeft_2 2 = .ok (.iushr, 1) := dk_124 (dk_at dksJ22_shiftLeft_2_0 2 rfl rfl)
theorem dJ22_shiftLeft_2_3 : decode cJ22_shiftLeft_2 3 = .ok (.istore_n 2, 1) := dk_61 (dk_at dksJ22_shiftLeft_2_0 3 rfl rfl)
theorem dJ22_shiftLeft_2_4 : decode cJ22_shiftLeft_2 4 = .ok (.iload_n 1, 1) := dk_27 (dk_at dksJ22_shiftLeft_2_0 4 rfl rfl)
theorem dJ22_shiftLeft_2_5 : decode cJ22_shiftLeft_2 5 = .ok (.bipush 31, 2) := dk_16 31 (dk_at dksJ22_shiftLeft_2_0 5 rfl rfl)
theorem dJ22_shiftLeft_2_7 : decode cJ22_shiftLeft_2 7 = .ok (.iand, 1) := dk_126 (dk_at dksJ22_shiftLeft_2_0 7 rfl rfl)
theorem dJ22_shiftLeft_2_8 : decode cJ22_shiftLeft_2 8 = .ok (.istore_n 3, 1) := dk_62 (dk_at dksJ22_shiftLeft_2_0 8 rfl rfl)
theorem dJ22_shiftLeft_2_9 : decode cJ22_shiftLeft_2 9 = .ok (.aload_n 0, 1) := dk_42 (dk_at dksJ22_shiftLeft_2_0 9 rfl rfl)
theorem dJ22_shiftLeft_2_10 : decode cJ22_shiftLeft_2 10 = .ok (.arraylength, 1) := dk_190 (dk_at dksJ22_shiftLeft_2_0 10 rfl rfl)
theorem dJ22_shiftLeft_2_11 : decode cJ22_shiftLeft_2 11 = .ok (.istore 4, 2) := dk_54 4 (dk_at dksJ22_shiftLeft_2_0 11 rfl rfl)
theorem dJ22_shiftLeft_2_13 : decode cJ22_shiftLeft_2 13 = .ok (.aconst_null, 1) := dk_1 (dk_at dksJ22_shiftLeft_2_0 13 rfl rfl)
theorem dJ22_shiftLeft_2_14 : decode cJ22_shiftLeft_2 14 = .ok (.astore 5, 2) := dk_58 5 (dk_at dksJ22_shiftLeft_2_0 14 rfl rfl)
theorem dJ22_shiftLeft_2_16 : decode cJ22_shiftLeft_2 16 = .ok (.iload_n 3, 1) := dk_29 (dk_at dksJ22_shiftLeft_2_0 16 rfl rfl)
theorem dJ22_shiftLeft_2_17 : decode cJ22_shiftLeft_2 17 = .ok (.ifCond .ne 24, 3) := dk_154 0 24 (dk_at dksJ22_shiftLeft_2_0 17 rfl rfl)
theorem dJ22_shiftLeft_2_20 : decode cJ22_shiftLeft_2 20 = .ok (.iload 4, 2) := dk_21 4 (dk_at dksJ22_shiftLeft_2_0 20 rfl rfl)
theorem dJ22_shiftLeft_2_22 : decode cJ22_shiftLeft_2 22 = .ok (.iload_n 2, 1) := dk_28 (dk_at dksJ22_shiftLeft_2_0 22 rfl rfl)
theorem dJ22_shiftLeft_2_23 : decode cJ22_shiftLeft_2 23 = .ok (.iadd, 1) := dk_96 (dk_at dksJ22_shiftLeft_2_0 23 rfl rfl)
theorem dJ22_shiftLeft_2_24 : decode cJ22_shiftLeft_2 24 = .ok (.newarray .int, 2) := dk_188_10 (dk_at dksJ22_shiftLeft_2_1 0 rfl rfl)
theorem dJ22_shiftLeft_2_26 : decode cJ22_shiftLeft_2 26 = .ok (.astore 5, 2) := dk_58 5 (dk_at dksJ22_shiftLeft_2_1 2 rfl rfl)
theorem dJ22_shiftLeft_2_28 : decode cJ22_shiftLeft_2 28 = .ok (.aload_n 0, 1) := dk_42 (dk_at dksJ22_shiftLeft_2_1 4 rfl rfl)
theorem dJ22_shiftLeft_2_29 : decode cJ22_shiftLeft_2 29 = .ok (.iconst 0, 1) := dk_3 (dk_at dksJ22_shiftLeft_2_1 5 rfl rfl)
theorem dJ22_shiftLeft_2_30 : decode cJ22_shiftLeft_2 30 = .ok (.aload 5, 2) := dk_25 5 (dk_at dksJ22_shiftLeft_2_1 6 rfl rfl)
theorem dJ22_shiftLeft_2_32 : decode cJ22_shiftLeft_2 32 = .ok (.iconst 0, 1) := dk_3 (dk_at dksJ22_shiftLeft_2_1 8 rfl rfl)
theorem dJ22_shiftLeft_2_33 : decode cJ22_shiftLeft_2 33 = .ok (.iload 4, 2) := dk_21 4 (dk_at dksJ22_shiftLeft_2_1 9 rfl rfl)
theorem dJ22_shiftLeft_2_35 : decode cJ22_shiftLeft_2 35 = .ok (.invokestatic 388, 3) := dk_184 1 132 (dk_at dksJ22_shiftLeft_2_1 11 rfl rfl)
theorem dJ22_shiftLeft_2_38 : decode cJ22_shiftLeft_2 38 = .ok (.goto 114, 3) := dk_167 0 114 (dk_at dksJ22_shiftLeft_2_1 14 rfl rfl)
theorem dJ22_shiftLeft_2_41 : decode cJ22_shiftLeft_2 41 = .ok (.iconst 0, 1) := dk_3 (dk_at dksJ22_shiftLeft_2_1 17 rfl rfl)
theorem dJ22_shiftLeft_2_42 : decode cJ22_shiftLeft_2 42 = .ok (.istore 6, 2) := dk_54 6 (dk_at dksJ22_shiftLeft_2_1 18 rfl rfl)
theorem dJ22_shiftLeft_2_44 : decode cJ22_shiftLeft_2 44 = .ok (.bipush 32, 2) := dk_16 32 (dk_at dksJ22_shiftLeft_2_1 20 rfl rfl)
theorem dJ22_shiftLeft_2_46 : decode cJ22_shiftLeft_2 46 = .ok (.iload_n 3, 1) := dk_29 (dk_at dksJ22_shiftLeft_2_1 22 rfl rfl)
theorem dJ22_shiftLeft_2_47 : decode cJ22_shiftLeft_2 47 = .ok (.isub, 1) := dk_100 (dk_at dksJ22_shiftLeft_2_1 23 rfl rfl)
theorem dJ22_shiftLeft_2_48 : decode cJ22_shiftLeft_2 48 = .ok (.istore 7, 2) := dk_54 7 (dk_at dksJ22_shiftLeft_2_2 0 rfl rfl)
theorem dJ22_shiftLeft_2_50 : decode cJ22_shiftLeft_2 50 = .ok (.aload_n 0, 1) := dk_42 (dk_at dksJ22_shiftLeft_2_2 2 rfl rfl)
theorem dJ22_shiftLeft_2_51 : decode cJ22_shiftLeft_2 51 = .ok (.iconst 0, 1) := dk_3 (dk_at dksJ22_shiftLeft_2_2 3 rfl rfl)
theorem dJ22_shiftLeft_2_52 : decode cJ22_shiftLeft_2 52 = .ok (.iaload, 1) := dk_46 (dk_at dksJ22_shiftLeft_2_2 4 rfl rfl)
theorem dJ22_shiftLeft_2_53 : decode cJ22_shiftLeft_2 53 = .ok (.iload 7, 2) := dk_21 7 (dk_at dksJ22_shiftLeft_2_2 5 rfl rfl)
theorem dJ22_shiftLeft_2_55 : decode cJ22_shiftLeft_2 55 = .ok (.iushr, 1) := dk_124 (dk_at dksJ22_shiftLeft_2_2 7 rfl rfl)
theorem dJ22_shiftLeft_2_56 : decode cJ22_shiftLeft_2 56 = .ok (.istore 8, 2) := dk_54 8 (dk_at dksJ22_shiftLeft_2_2 8 rfl rfl)
theorem dJ22_shiftLeft_2_58 : decode cJ22_shiftLeft_2 58 = .ok (.iload 8, 2) := dk_21 8 (dk_at dksJ22_shiftLeft_2_2 10 rfl rfl)
theorem dJ22_shiftLeft_2_60 : decode cJ22_shiftLeft_2 60 = .ok (.ifCond .eq 26, 3) := dk_153 0 26 (dk_at dksJ22_shiftLeft_2_2 12 rfl rfl)
theorem dJ22_shiftLeft_2_63 : decode cJ22_shiftLeft_2 63 = .ok (.iload 4, 2) := dk_21 4 (dk_at dksJ22_shiftLeft_2_2 15 rfl rfl)
theorem dJ22_shiftLeft_2_65 : decode cJ22_shiftLeft_2 65 = .ok (.iload_n 2, 1) := dk_28 (dk_at dksJ22_shiftLeft_2_2 17 rfl rfl)
theorem dJ22_shiftLeft_2_66 : decode cJ22_shiftLeft_2 66 = .ok (.iadd, 1) := dk_96 (dk_at dksJ22_shiftLeft_2_2 18 rfl rfl)
theorem dJ22_shiftLeft_2_67 : decode cJ22_shiftLeft_2 67 = .ok (.iconst 1, 1) := dk_4 (dk_at dksJ22_shiftLeft_2_2 19 rfl rfl)
theorem dJ22_shiftLeft_2_68 : decode cJ22_shiftLeft_2 68 = .ok (.iadd, 1) := dk_96 (dk_at dksJ22_shiftLeft_2_2 20 rfl rfl)
theorem dJ22_shiftLeft_2_69 : decode cJ22_shiftLeft_2 69 = .ok (.newarray .int, 2) := dk_188_10 (dk_at dksJ22_shiftLeft_2_2 21 rfl rfl)
theorem dJ22_shiftLeft_2_71 : decode cJ22_shiftLeft_2 71 = .ok (.astore 5, 2) := dk_58 5 (dk_at dksJ22_shiftLeft_2_3 0 rfl rfl)
theorem dJ22_shiftLeft_2_73 : decode cJ22_shiftLeft_2 73 = .ok (.aload 5, 2) := dk_25 5 (dk_at dksJ22_shiftLeft_2_3 2 rfl rfl)
theorem dJ22_shiftLeft_2_75 : decode cJ22_shiftLeft_2 75 = .ok (.iload 6, 2) := dk_21 6 (dk_at dksJ22_shiftLeft_2_3 4 rfl rfl)
theorem dJ22_shiftLeft_2_77 : decode cJ22_shiftLeft_2 77 = .ok (.iinc 6 1, 3) := dk_132 6 1 (dk_at dksJ22_shiftLeft_2_3 6 rfl rfl)
theorem dJ22_shiftLeft_2_80 : decode cJ22_shiftLeft_2 80 = .ok (.iload 8, 2) := dk_21 8 (dk_at dksJ22_shiftLeft_2_3 9 rfl rfl)
theorem dJ22_shiftLeft_2_82 : decode cJ22_shiftLeft_2 82 = .ok (.iastore, 1) := dk_79 (dk_at dksJ22_shiftLeft_2_3 11 rfl rfl)
theorem dJ22_shiftLeft_2_83 : decode cJ22_shiftLeft_2 83 = .ok (.goto 11, 3) := dk_167 0 11 (dk_at dksJ22_shiftLeft_2_3 12 rfl rfl)
theorem dJ22_shiftLeft_2_86 : decode cJ22_shiftLeft_2 86 = .ok (.iload 4, 2) := dk_21 4 (dk_at dksJ22_shiftLeft_2_3 15 rfl rfl)
theorem dJ22_shiftLeft_2_88 : decode cJ22_shiftLeft_2 88 = .ok (.iload_n 2, 1) := dk_28 (dk_at dksJ22_shiftLeft_2_3 17 rfl rfl)
theorem dJ22_shiftLeft_2_89 : decode cJ22_shiftLeft_2 89 = .ok (.iadd, 1) := dk_96 (dk_at dksJ22_shiftLeft_2_3 18 rfl rfl)
theorem dJ22_shiftLeft_2_90 : decode cJ22_shiftLeft_2 90 = .ok (.newarray .int, 2) := dk_188_10 (dk_at dksJ22_shiftLeft_2_3 19 rfl rfl)
theorem dJ22_shiftLeft_2_92 : decode cJ22_shiftLeft_2 92 = .ok (.astore 5, 2) := dk_58 5 (dk_at dksJ22_shiftLeft_2_3 21 rfl rfl)
theorem dJ22_shiftLeft_2_94 : decode cJ22_shiftLeft_2 94 = .ok (.iload 4, 2) := dk_21 4 (dk_at dksJ22_shiftLeft_2_4 0 rfl rfl)
theorem dJ22_shiftLeft_2_96 : decode cJ22_shiftLeft_2 96 = .ok (.iconst 1, 1) := dk_4 (dk_at dksJ22_shiftLeft_2_4 2 rfl rfl)
theorem dJ22_shiftLeft_2_97 : decode cJ22_shiftLeft_2 97 = .ok (.isub, 1) := dk_100 (dk_at dksJ22_shiftLeft_2_4 3 rfl rfl)
theorem dJ22_shiftLeft_2_98 : decode cJ22_shiftLeft_2 98 = .ok (.istore 9, 2) := dk_54 9 (dk_at dksJ22_shiftLeft_2_4 4 rfl rfl)
theorem dJ22_shiftLeft_2_100 : decode cJ22_shiftLeft_2 100 = .ok (.iconst 0, 1) := dk_3 (dk_at dksJ22_shiftLeft_2_4 6 rfl rfl)
theorem dJ22_shiftLeft_2_101 : decode cJ22_shiftLeft_2 101 = .ok (.iload 9, 2) := dk_21 9 (dk_at dksJ22_shiftLeft_2_4 7 rfl rfl)
theorem dJ22_shiftLeft_2_103 : decode cJ22_shiftLeft_2 103 = .ok (.iconst 1, 1) := dk_4 (dk_at dksJ22_shiftLeft_2_4 9 rfl rfl)
theorem dJ22_shiftLeft_2_104 : decode cJ22_shiftLeft_2 104 = .ok (.iadd, 1) := dk_96 (dk_at dksJ22_shiftLeft_2_4 10 rfl rfl)
theorem dJ22_shiftLeft_2_105 : decode cJ22_shiftLeft_2 105 = .ok (.aload_n 0, 1) := dk_42 (dk_at dksJ22_shiftLeft_2_4 11 rfl rfl)
theorem dJ22_shiftLeft_2_106 : decode cJ22_shiftLeft_2 106 = .ok (.arraylength, 1) := dk_190 (dk_at dksJ22_shiftLeft_2_4 12 rfl rfl)
theorem dJ22_shiftLeft_2_107 : decode cJ22_shiftLeft_2 107 = .ok (.invokestatic 611, 3) := dk_184 2 99 (dk_at dksJ22_shiftLeft_2_4 13 rfl rfl)
theorem dJ22_shiftLeft_2_110 : decode cJ22_shiftLeft_2 110 = .ok (.pop, 1) := dk_87 (dk_at dksJ22_shiftLeft_2_4 16 rfl rfl)
theorem dJ22_shiftLeft_2_111 : decode cJ22_shiftLeft_2 111 = .ok (.iload 6, 2) := dk_21 6 (dk_at dksJ22_shiftLeft_2_4 17 rfl rfl)
theorem dJ22_shiftLeft_2_113 : decode cJ22_shiftLeft_2 113 = .ok (.iload 9, 2) := dk_21 9 (dk_at dksJ22_shiftLeft_2_4 19 rfl rfl)
theorem dJ22_shiftLeft_2_115 : decode cJ22_shiftLeft_2 115 = .ok (.iload 6, 2) := dk_21 6 (dk_at dksJ22_shiftLeft_2_4 21 rfl rfl)
theorem dJ22_shiftLeft_2_117 : decode cJ22_shiftLeft_2 117 = .ok (.iadd, 1) := dk_96 (dk_at dksJ22_shiftLeft_2_4 23 rfl rfl)
theorem dJ22_shiftLeft_2_118 : decode cJ22_shiftLeft_2 118 = .ok (.iconst 1, 1) := dk_4 (dk_at dksJ22_shiftLeft_2_5 0 rfl rfl)
theorem dJ22_shiftLeft_2_119 : decode cJ22_shiftLeft_2 119 = .ok (.iadd, 1) := dk_96 (dk_at dksJ22_shiftLeft_2_5 1 rfl rfl)
theorem dJ22_shiftLeft_2_120 : decode cJ22_shiftLeft_2 120 = .ok (.aload 5, 2) := dk_25 5 (dk_at dksJ22_shiftLeft_2_5 2 rfl rfl)
theorem dJ22_shiftLeft_2_122 : decode cJ22_shiftLeft_2 122 = .ok (.arraylength, 1) := dk_190 (dk_at dksJ22_shiftLeft_2_5 4 rfl rfl)
theorem dJ22_shiftLeft_2_123 : decode cJ22_shiftLeft_2 123 = .ok (.invokestatic 611, 3) := dk_184 2 99 (dk_at dksJ22_shiftLeft_2_5 5 rfl rfl)
theorem dJ22_shiftLeft_2_126 : decode cJ22_shiftLeft_2 126 = .ok (.pop, 1) := dk_87 (dk_at dksJ22_shiftLeft_2_5 8 rfl rfl)
theorem dJ22_shiftLeft_2_127 : decode cJ22_shiftLeft_2 127 = .ok (.aload 5, 2) := dk_25 5 (dk_at dksJ22_shiftLeft_2_5 9 rfl rfl)
theorem dJ22_shiftLeft_2_129 : decode cJ22_shiftLeft_2 129 = .ok (.aload_n 0, 1) := dk_42 (dk_at dksJ22_shiftLeft_2_5 11 rfl rfl)
theorem dJ22_shiftLeft_2_130 : decode cJ22_shiftLeft_2 130 = .ok (.iload 6, 2) := dk_21 6 (dk_at dksJ22_shiftLeft_2_5 12 rfl rfl)
theorem dJ22_shiftLeft_2_132 : decode cJ22_shiftLeft_2 132 = .ok (.iload_n 3, 1) := dk_29 (dk_at dksJ22_shiftLeft_2_5 14 rfl rfl)
theorem dJ22_shiftLeft_2_133 : decode cJ22_shiftLeft_2 133 = .ok (.iload 9, 2) := dk_21 9 (dk_at dksJ22_shiftLeft_2_5 15 rfl rfl)
theorem dJ22_shiftLeft_2_135 : decode cJ22_shiftLeft_2 135 = .ok (.invokestatic 618, 3) := dk_184 2 106 (dk_at dksJ22_shiftLeft_2_5 17 rfl rfl)
theorem dJ22_shiftLeft_2_138 : decode cJ22_shiftLeft_2 138 = .ok (.aload 5, 2) := dk_25 5 (dk_at dksJ22_shiftLeft_2_5 20 rfl rfl)
theorem dJ22_shiftLeft_2_140 : decode cJ22_shiftLeft_2 140 = .ok (.iload 9, 2) := dk_21 9 (dk_at dksJ22_shiftLeft_2_5 22 rfl rfl)
theorem dJ22_shiftLeft_2_142 : decode cJ22_shiftLeft_2 142 = .ok (.iload 6, 2) := dk_21 6 (dk_at dksJ22_shiftLeft_2_6 0 rfl rfl)
theorem dJ22_shiftLeft_2_144 : decode cJ22_shiftLeft_2 144 = .ok (.iadd, 1) := dk_96 (dk_at dksJ22_shiftLeft_2_6 2 rfl rfl)
theorem dJ22_shiftLeft_2_145 : decode cJ22_shiftLeft_2 145 = .ok (.aload_n 0, 1) := dk_42 (dk_at dksJ22_shiftLeft_2_6 3 rfl rfl)
theorem dJ22_shiftLeft_2_146 : decode cJ22_shiftLeft_2 146 = .ok (.iload 9, 2) := dk_21 9 (dk_at dksJ22_shiftLeft_2_6 4 rfl rfl)
theorem dJ22_shiftLeft_2_148 : decode cJ22_shiftLeft_2 148 = .ok (.iaload, 1) := dk_46 (dk_at dksJ22_shiftLeft_2_6 6 rfl rfl)
theorem dJ22_shiftLeft_2_149 : decode cJ22_shiftLeft_2 149 = .ok (.iload_n 3, 1) := dk_29 (dk_at dksJ22_shiftLeft_2_6 7 rfl rfl)
theorem dJ22_shiftLeft_2_150 : decode cJ22_shiftLeft_2 150 = .ok (.ishl, 1) := dk_120 (dk_at dksJ22_shiftLeft_2_6 8 rfl rfl)
theorem dJ22_shiftLeft_2_151 : decode cJ22_shiftLeft_2 151 = .ok (.iastore, 1) := dk_79 (dk_at dksJ22_shiftLeft_2_6 9 rfl rfl)
theorem dJ22_shiftLeft_2_152 : decode cJ22_shiftLeft_2 152 = .ok (.aload 5, 2) := dk_25 5 (dk_at dksJ22_shiftLeft_2_6 10 rfl rfl)
theorem dJ22_shiftLeft_2_154 : decode cJ22_shiftLeft_2 154 = .ok (.areturn, 1) := dk_176 (dk_at dksJ22_shiftLeft_2_6 12 rfl rfl)
theorem yd_J22_shiftLeftImplWorker : yJ22_shiftLeftImplWorker.cls ≠ "java/lang/invoke/MethodHandle" ∧ yJ22_shiftLeftImplWorker.cls ≠ "java/lang/invoke/VarHandle" ∧ (parseMethodDescriptor yJ22_shiftLeftImplWorker.desc).map (fun d => d.parameters.length) = some 5 := by decide +kernel
/-! ### shifts up -/
theorem div32 (n : Nat) : 32 * (n / 32) + n % 32 = n := by omega
theorem cpy_dig (d : Nat → Nat) (n : Nat) : va_cpy (dI d) (dI (fun _ => 0)) 0 0 n = dI (fun i => if i < n then d i else 0) := by
  funext i
  unfold va_cpy dI
  by_cases h : i < n
  · rw [if_pos (by omega)]
    show nI (d (0 + (i - 0))) = nI (if i < n then d i else 0)
    rw [if_pos h]
    simp
  · rw [if_neg (by omega)]
    show nI 0 = nI (if i < n then d i else 0)
    rw [if_neg h]
theorem val_shift0 (d : Nat → Nat) (n q : Nat) : val (fun i => if i < n then d i else 0) (n + q) = val d n * 2 ^ (32 * q) := by
  rw [← seg_0, seg_app, seg_zero (d := fun i => if i < n then d i else 0) (o := 0 + n) (t := q) (fun i h1 h2 => if_neg (by omega)), seg_cg (d := fun i => if i < n then d i else 0) (e := d) (o := 0) (t := n) (fun i h1 h2 => if_pos (by omega)), seg_0, Nat.pow_mul]
  rfl
theorem sh_nz {d : Nat → Nat} (hd : ∀ i, d i < 4294967296) {s n : Nat} (hs : s < 32) (hs0 : 0 < s) (hn : 0 < n) (h0 : d 0 ≠ 0) (hc : d 0 / 2 ^ (32 - s) = 0) : dup (wk d (fun _ => 0) 0 s (n - 1)) (n - 1 + 0) (d (n - 1) * 2 ^ s % 4294967296) 0 ≠ 0 := by
  have h1 : d 0 < 2 ^ (32 - s) := by
    rcases Nat.div_eq_zero_iff.mp hc with q | q
    · have := Nat.two_pow_pos (32 - s); omega
    · exact q
  have h2 : d 0 * 2 ^ s < 4294967296 := by
    rw [← pow_split (s := s) (by omega), Nat.mul_comm (2 ^ s)]
    exact Nat.mul_lt_mul_of_pos_right h1 (Nat.two_pow_pos s)
  have h3 : 0 < d 0 * 2 ^ s := Nat.mul_pos (by omega) (Nat.two_pow_pos s)
  unfold dup wk
  by_cases h : n = 1
  · subst h
    rw [if_pos rfl, Nat.mod_eq_of_lt h2]
    exact Nat.ne_of_gt h3
  · rw [if_neg (by omega), if_pos (by omega), Nat.sub_self, Nat.mod_eq_of_lt h2]
    exact Nat.ne_of_gt (Nat.add_pos_left h3 _)

set_option maxHeartbeats 1000000 in
theorem m_shlA (l : Launch) (z : State) (H0 : Heap) (b : Nat) (n xl : Nat) (w : Bool) (d : Nat → Nat) (hx0 : 0 < xl) (hx9 : xl < 1000000) (hn9 : n < 1000000) (h00 : d 0 ≠ 0) (hd : ∀ i, d i < 4294967296) (hB : gI z w .int H0 b xl (dI d)) : Met l yJ22_shiftLeft_2 (ws_ yJ22_shiftLeft_2 cJ22_shiftLeft_2 10 (some (.array .int))) { frames := 2, cells := 1, slots := (xl + n / 32 + 1), locals := 45 } (gPc z H0 [.ref b, .int (nI n)]) (gRr (gfr H0) H0 (fun r H1 => H0.size ≤ r ∧ ∃ ee len, (∀ i, ee i < 4294967296) ∧ gI z true .int H1 r len (dI ee) ∧ val ee len = val d xl * 2 ^ n ∧ ee 0 ≠ 0 ∧ 0 < len ∧ len ≤ xl + n / 32 + 1)) 1 (xl + n / 32 + 1) (gfr H0) := by
  refine g_start (by decide +kernel) (Nat.le_of_ble_eq_true rfl) ?_
  intro p e s m below meth c ls hx hb hr hlocks hml hown hname hts hwm hl
  have hown : s.vm.findClass "java/math/BigInteger" = some m.cls := hown
  have hal : z.vm.Alike s.vm := hwm.alike
  have hCF : CallFix p m c cJ22_shiftLeft_2 10 s [.ref b, .int (nI n)].toArray lw_all "java/math/BigInteger" := ⟨hx, hb, hml, hown, hts⟩
  have hl : lv_has ls 10 [(0, .ref b), (1, .int (nI n))] := hl
  have hS : va_S (gfr H0) H0 H0 [] := va_S.rf
  have lt_b := hB.lt
  refine lv_iload_n hx hb dJ22_shiftLeft_2_0 rfl (lv_at hl 1 rfl) ?_
  refine lv_iconst (v := 5) hx hb dJ22_shiftLeft_2_1 (by decide) ?_
  refine lv_iushr hx hb dJ22_shiftLeft_2_2 rfl ?_
  refine g_topi (v := nI (n / 32)) (ai_ushr (a := n) (k := 5) (rfl) (rfl) (by omega) (by omega)) ?_
  refine lv_istore_n hx hb dJ22_shiftLeft_2_3 rfl hl (by decide) rfl (fun ls hl => ?_)
  have hl : lv_has ls 10 [(2, .int (nI (n / 32))), (0, .ref b), (1, .int (nI n))] := hl
  refine lv_iload_n hx hb dJ22_shiftLeft_2_4 rfl (lv_at hl 2 rfl) ?_
  refine lv_bipush (v := 31) hx hb dJ22_shiftLeft_2_5 (by decide) ?_
  refine lv_iand hx hb dJ22_shiftLeft_2_7 ?_
  refine g_topi (v := nI (n % 32)) (ai_and31 (a := n) (rfl) (by omega)) ?_
  refine lv_istore_n hx hb dJ22_shiftLeft_2_8 rfl hl (by decide) rfl (fun ls hl => ?_)
  have hl : lv_has ls 10 [(3, .int (nI (n % 32))), (2, .int (nI (n / 32))), (0, .ref b), (1, .int (nI n))] := hl
  refine lv_aload_n hx hb dJ22_shiftLeft_2_9 rfl (lv_at hl 2 rfl) ?_
  refine gw_len hx hb hal hB dJ22_shiftLeft_2_10 ?_
  refine lv_istore hx hb dJ22_shiftLeft_2_11 hl (by decide) rfl (fun ls hl => ?_)
  have hl : lv_has ls 10 [(4, .int (nI xl)), (3, .int (nI (n % 32))), (2, .int (nI (n / 32))), (0, .ref b), (1, .int (nI n))] := hl
  refine lv_null hx hb dJ22_shiftLeft_2_13 ?_
  refine lv_astoreN hx hb dJ22_shiftLeft_2_14 hl (by decide) rfl (fun ls hl => ?_)
  have hl : lv_has ls 10 [(5,  .null), (4, .int (nI xl)), (3, .int (nI (n % 32))), (2, .int (nI (n / 32))), (0, .ref b), (1, .int (nI n))] := hl
  refine lv_iload_n hx hb dJ22_shiftLeft_2_16 rfl (lv_at hl 2 rfl) ?_
  refine lv_if_ne (tgt := 41) hx hb dJ22_shiftLeft_2_17 (by decide) (fun c_17 => ?_) (fun c_17 => ?_)
  · skip
    have c_17 := mt (ai_eq (a := (n % 32)) (b := 0) (rfl) (rfl) (by omega) (by omega)).mpr c_17
    refine lv_iconst (v := 0) hx hb dJ22_shiftLeft_2_41 (by decide) ?_
    refine lv_istore hx hb dJ22_shiftLeft_2_42 hl (by decide) rfl (fun ls hl => ?_)
    have hl : lv_has ls 10 [(6, .int 0), (5,  .null), (4, .int (nI xl)), (3, .int (nI (n % 32))), (2, .int (nI (n / 32))), (0, .ref b), (1, .int (nI n))] := hl
    refine lv_bipush (v := 32) hx hb dJ22_shiftLeft_2_44 (by decide) ?_
    refine lv_iload_n hx hb dJ22_shiftLeft_2_46 rfl (lv_at hl 3 rfl) ?_
    refine lv_isub hx hb dJ22_shiftLeft_2_47 ?_
    refine g_topi (v := nI (32 - (n % 32))) (ai_sub (a := 32) (b := (n % 32)) (rfl) (rfl) (by omega)) ?_
    refine lv_istore hx hb dJ22_shiftLeft_2_48 hl (by decide) rfl (fun ls hl => ?_)
    have hl : lv_has ls 10 [(7, .int (nI (32 - (n % 32)))), (6, .int 0), (5,  .null), (4, .int (nI xl)), (3, .int (nI (n % 32))), (2, .int (nI (n / 32))), (0, .ref b), (1, .int (nI n))] := hl
    refine lv_aload_n hx hb dJ22_shiftLeft_2_50 rfl (lv_at hl 6 rfl) ?_
    refine lv_iconst (v := 0) hx hb dJ22_shiftLeft_2_51 (by decide) ?_
    refine gw_iald hx hb hal hB 0 (rfl) (by omega) (by omega) dJ22_shiftLeft_2_52 ?_
    refine g_topi (v := (nI (d 0))) rfl ?_
    refine lv_iload hx hb dJ22_shiftLeft_2_53 (lv_at hl 0 rfl) ?_
    refine lv_iushr hx hb dJ22_shiftLeft_2_55 rfl ?_
    refine g_topi (v := nI ((d 0) / 2 ^ (32 - (n % 32)))) (ai_ushr (a := (d 0)) (k := (32 - (n % 32))) (rfl) (rfl) (hd _) (by omega)) ?_
    refine lv_istore hx hb dJ22_shiftLeft_2_56 hl (by decide) rfl (fun ls hl => ?_)
    have hl : lv_has ls 10 [(8, .int (nI ((d 0) / 2 ^ (32 - (n % 32))))), (7, .int (nI (32 - (n % 32)))), (6, .int 0), (5,  .null), (4, .int (nI xl)), (3, .int (nI (n % 32))), (2, .int (nI (n / 32))), (0, .ref b), (1, .int (nI n))] := hl
    have hh0 := hd 0
    have hh1 : d 0 / 2 ^ (32 - n % 32) ≤ d 0 := Nat.div_le_self _ _
    refine lv_iload hx hb dJ22_shiftLeft_2_58 (lv_at hl 0 rfl) ?_
    refine lv_if_eq (tgt := 86) hx hb dJ22_shiftLeft_2_60 (by decide) (fun c_60 => ?_) (fun c_60 => ?_)
    · skip
      have c_60 := (ai_eqU (a := ((d 0) / 2 ^ (32 - (n % 32)))) (b := 0) (rfl) (rfl) (by omega) (by omega)).mp c_60
      refine lv_iload hx hb dJ22_shiftLeft_2_86 (lv_at hl 4 rfl) ?_
      refine lv_iload_n hx hb dJ22_shiftLeft_2_88 rfl (lv_at hl 6 rfl) ?_
      refine lv_iadd hx hb dJ22_shiftLeft_2_89 ?_
      refine g_topi (v := nI (xl + (n / 32))) (ai_add (a := xl) (b := (n / 32)) (rfl) (rfl)) ?_
      refine gw_newa (atype := .int) (ty := .int) (N' := (xl + (n / 32))) hx hb (hts _ q990) rfl hal hS (rfl) (by omega) (by simp [componentBytes]; omega) (by first | omega | (dsimp only; omega)) (by first | omega | (dsimp only; omega)) dJ22_shiftLeft_2_90 (fun qc H_1 eqc zqc hgx h_qc hS => ?_)
      have hB := hB.x hgx
      have h_qc : gI z true .int H_1 qc (xl + (n / 32)) (fun _ => 0) := h_qc
      have h_qc : gI z true .int H_1 qc (xl + (n / 32)) (dI (fun _ => 0)) := h_qc
      refine lv_astore hx hb dJ22_shiftLeft_2_92 hl (by decide) rfl (fun ls hl => ?_)
      have hl : lv_has ls 10 [(5, .ref qc), (8, .int (nI ((d 0) / 2 ^ (32 - (n % 32))))), (7, .int (nI (32 - (n % 32)))), (6, .int 0), (4, .int (nI xl)), (3, .int (nI (n % 32))), (2, .int (nI (n / 32))), (0, .ref b), (1, .int (nI n))] := hl
      refine lv_iload hx hb dJ22_shiftLeft_2_94 (lv_at hl 4 rfl) ?_
      refine lv_iconst (v := 1) hx hb dJ22_shiftLeft_2_96 (by decide) ?_
      refine lv_isub hx hb dJ22_shiftLeft_2_97 ?_
      refine g_topi (v := nI (xl - 1)) (ai_sub (a := xl) (b := 1) (rfl) (rfl) (by omega)) ?_
      refine lv_istore hx hb dJ22_shiftLeft_2_98 hl (by decide) rfl (fun ls hl => ?_)
      have hl : lv_has ls 10 [(9, .int (nI (xl - 1))), (5, .ref qc), (8, .int (nI ((d 0) / 2 ^ (32 - (n % 32))))), (7, .int (nI (32 - (n % 32)))), (6, .int 0), (4, .int (nI xl)), (3, .int (nI (n % 32))), (2, .int (nI (n / 32))), (0, .ref b), (1, .int (nI n))] := hl
      refine lv_iconst (v := 0) hx hb dJ22_shiftLeft_2_100 (by decide) ?_
      refine lv_iload hx hb dJ22_shiftLeft_2_101 (lv_at hl 0 rfl) ?_
      refine lv_iconst (v := 1) hx hb dJ22_shiftLeft_2_103 (by decide) ?_
      refine lv_iadd hx hb dJ22_shiftLeft_2_104 ?_
      refine g_topi (v := nI ((xl - 1) + 1)) (ai_add (a := (xl - 1)) (b := 1) (rfl) (rfl)) ?_
      refine lv_aload_n hx hb dJ22_shiftLeft_2_105 rfl (lv_at hl 8 rfl) ?_
      refine gw_len hx hb hal hB dJ22_shiftLeft_2_106 ?_
      refine gcS3_iP hCF hwm hl.1 (m_objCheck l z H_1  0 (xl - 1 + 1) xl (by omega) (by omega) (by omega) ) (lw_S q1248 q630 q81 q631) yd_J20_checkFromToIndex ⟨Nat.le_of_ble_eq_true rfl, Nat.le_of_ble_eq_true rfl⟩ ⟨by first | omega | (dsimp only; omega), by first | omega | (dsimp only; omega)⟩ (Nat.le_of_ble_eq_true rfl) dJ22_shiftLeft_2_107 (fun r_2 hp => ?_)
      subst hp
      refine lv_pop hx hb dJ22_shiftLeft_2_110 rfl ?_
      refine lv_iload hx hb dJ22_shiftLeft_2_111 (lv_at hl 4 rfl) ?_
      refine lv_iload hx hb dJ22_shiftLeft_2_113 (lv_at hl 0 rfl) ?_
      refine lv_iload hx hb dJ22_shiftLeft_2_115 (lv_at hl 4 rfl) ?_
      refine lv_iadd hx hb dJ22_shiftLeft_2_117 ?_
      refine g_topi (v := nI (xl - 1)) (ai_add (a := (xl - 1)) (b := 0) (rfl) (rfl)) ?_
      refine lv_iconst (v := 1) hx hb dJ22_shiftLeft_2_118 (by decide) ?_
      refine lv_iadd hx hb dJ22_shiftLeft_2_119 ?_
      refine g_topi (v := nI ((xl - 1) + 1)) (ai_add (a := (xl - 1)) (b := 1) (rfl) (rfl)) ?_
      refine lv_aload hx hb dJ22_shiftLeft_2_120 (lv_at hl 1 rfl) ?_
      refine gw_len hx hb hal h_qc dJ22_shiftLeft_2_122 ?_
      refine gcS3_iP hCF hwm hl.1 (m_objCheck l z H_1  0 (xl - 1 + 1) (xl + n / 32) (by omega) (by omega) (by omega) ) (lw_S q1248 q630 q81 q631) yd_J20_checkFromToIndex ⟨Nat.le_of_ble_eq_true rfl, Nat.le_of_ble_eq_true rfl⟩ ⟨by first | omega | (dsimp only; omega), by first | omega | (dsimp only; omega)⟩ (Nat.le_of_ble_eq_true rfl) dJ22_shiftLeft_2_123 (fun r_3 hp => ?_)
      subst hp
      refine lv_pop hx hb dJ22_shiftLeft_2_126 rfl ?_
      refine lv_aload hx hb dJ22_shiftLeft_2_127 (lv_at hl 1 rfl) ?_
      refine lv_aload_n hx hb dJ22_shiftLeft_2_129 rfl (lv_at hl 8 rfl) ?_
      refine lv_iload hx hb dJ22_shiftLeft_2_130 (lv_at hl 4 rfl) ?_
      refine lv_iload_n hx hb dJ22_shiftLeft_2_132 rfl (lv_at hl 6 rfl) ?_
      refine lv_iload hx hb dJ22_shiftLeft_2_133 (lv_at hl 0 rfl) ?_
      have hsz := hS.1
      refine gcS5_v hCF hwm hl.1 (m_shlWork l z H_1 qc b 0 (n % 32) (xl - 1) (xl + n / 32) xl w d (fun _ => 0) (by omega) (by omega) (by omega) (by omega) (by omega) (by omega) (by omega) hd (fun _ => by decide) h_qc hB ) (lw_S q1249 q1250 q83 q1251) yd_J22_shiftLeftImplWorker hS (fun q h => by have hsz := hS.1; (try dsimp only [gfr] at h ⊢) <;> omega) ⟨Nat.le_of_ble_eq_true rfl, Nat.le_of_ble_eq_true rfl⟩ ⟨by first | omega | (dsimp only; omega), by first | omega | (dsimp only; omega)⟩ (Nat.le_of_ble_eq_true rfl) dJ22_shiftLeft_2_135 (fun H_4 locs hp hex hS => ?_)
      have sz_H_4 : H_1.size ≤ H_4.size := hex.1
      have hB := hB.ex hex (by intro h; (try dsimp only [gfr] at h) <;> omega)
      have h_qc := hp
      have lt_qc := h_qc.lt
      refine lv_aload hx hb dJ22_shiftLeft_2_138 (lv_at hl 1 rfl) ?_
      refine lv_iload hx hb dJ22_shiftLeft_2_140 (lv_at hl 0 rfl) ?_
      refine lv_iload hx hb dJ22_shiftLeft_2_142 (lv_at hl 4 rfl) ?_
      refine lv_iadd hx hb dJ22_shiftLeft_2_144 ?_
      refine g_topi (v := nI (xl - 1)) (ai_add (a := (xl - 1)) (b := 0) (rfl) (rfl)) ?_
      refine lv_aload_n hx hb dJ22_shiftLeft_2_145 rfl (lv_at hl 8 rfl) ?_
      refine lv_iload hx hb dJ22_shiftLeft_2_146 (lv_at hl 0 rfl) ?_
      refine gw_iald hx hb hal hB (xl - 1) (rfl) (by omega) (by omega) dJ22_shiftLeft_2_148 ?_
      refine g_topi (v := (nI (d (xl - 1)))) rfl ?_
      refine lv_iload_n hx hb dJ22_shiftLeft_2_149 rfl (lv_at hl 6 rfl) ?_
      refine lv_ishl hx hb dJ22_shiftLeft_2_150 ?_
      refine g_topi (v := nI ((d (xl - 1)) * 2 ^ (n % 32))) (ai_shlv (a := (d (xl - 1))) (k := (n % 32)) (rfl) (rfl) (by omega)) ?_
      refine gw_iast (f := (dI (wk d (fun _ => 0) 0 (n % 32) (xl - 1)))) hx hb hal h_qc hS (by have hsz := hS.1; (try dsimp only [gfr]) <;> omega) (xl - 1) (rfl) (by omega) (by omega) dJ22_shiftLeft_2_151 (fun H_6 locs h_new hch hS => ?_)
      have hB := hB.ch hch (by omega)
      have sz_H_6 := hch.1
      clear hch
      have h_qc : gI z true .int H_6 qc (xl + n / 32) (upd (dI (wk d (fun _ => 0) 0 (n % 32) (xl - 1))) (xl - 1) (nI ((d (xl - 1)) * 2 ^ (n % 32)))) := h_new
      replace h_qc : gI z true .int H_6 qc (xl + n / 32) (dI (dup (wk d (fun _ => 0) 0 (n % 32) (xl - 1)) (xl - 1) (((d (xl - 1)) * 2 ^ (n % 32)) % 4294967296))) := by
        have q := h_qc
        rw [dI_put] at q
        exact q
      have bd_7 : ∀ i, (dup (wk d (fun _ => 0) 0 (n % 32) (xl - 1)) (xl - 1) (((d (xl - 1)) * 2 ^ (n % 32)) % 4294967296)) i < 4294967296 := dup_lt (wk_lt hd (fun _ => by decide) (by omega) (by omega)) (Nat.mod_lt _ (by decide))
      refine lv_aload hx hb dJ22_shiftLeft_2_152 (lv_at hl 1 rfl) ?_
      refine g_aret hx hb hr hlocks (Or.inr ⟨_, rfl⟩) hS (by first | omega | (dsimp only; omega)) (by first | omega | (dsimp only; omega)) ?_ dJ22_shiftLeft_2_154
      refine ⟨by omega, _, _, bd_7, h_qc, ?_, ?_, by omega, by omega⟩
      · have q := sh_end (d := d) (g := fun _ => 0) hd (o := 0) (s := n % 32) (n := xl) (q := n / 32) (by omega) (by omega) hx0 (by omega) (fun _ => c_60) (fun q => by omega) (fun i hi => rfl)
        rw [Nat.add_zero, Nat.add_zero] at q
        rw [q, div32]
      · exact sh_nz hd (by omega) (by omega) hx0 h00 c_60
    · skip
      have c_60 := mt (ai_eqU (a := ((d 0) / 2 ^ (32 - (n % 32)))) (b := 0) (rfl) (rfl) (by omega) (by omega)).mpr c_60
      refine lv_iload hx hb dJ22_shiftLeft_2_63 (lv_at hl 4 rfl) ?_
      refine lv_iload_n hx hb dJ22_shiftLeft_2_65 rfl (lv_at hl 6 rfl) ?_
      refine lv_iadd hx hb dJ22_shiftLeft_2_66 ?_
      refine g_topi (v := nI (xl + (n / 32))) (ai_add (a := xl) (b := (n / 32)) (rfl) (rfl)) ?_
      refine lv_iconst (v := 1) hx hb dJ22_shiftLeft_2_67 (by decide) ?_
      refine lv_iadd hx hb dJ22_shiftLeft_2_68 ?_
      refine g_topi (v := nI ((xl + (n / 32)) + 1)) (ai_add (a := (xl + (n / 32))) (b := 1) (rfl) (rfl)) ?_
      refine gw_newa (atype := .int) (ty := .int) (N' := ((xl + (n / 32)) + 1)) hx hb (hts _ q990) rfl hal hS (rfl) (by omega) (by simp [componentBytes]; omega) (by first | omega | (dsimp only; omega)) (by first | omega | (dsimp only; omega)) dJ22_shiftLeft_2_69 (fun qb H_8 eqb zqb hgx h_qb hS => ?_)
      have hB := hB.x hgx
      have h_qb : gI z true .int H_8 qb ((xl + (n / 32)) + 1) (fun _ => 0) := h_qb
      have h_qb : gI z true .int H_8 qb ((xl + (n / 32)) + 1) (dI (fun _ => 0)) := h_qb
      refine lv_astore hx hb dJ22_shiftLeft_2_71 hl (by decide) rfl (fun ls hl => ?_)
      have hl : lv_has ls 10 [(5, .ref qb), (8, .int (nI ((d 0) / 2 ^ (32 - (n % 32))))), (7, .int (nI (32 - (n % 32)))), (6, .int 0), (4, .int (nI xl)), (3, .int (nI (n % 32))), (2, .int (nI (n / 32))), (0, .ref b), (1, .int (nI n))] := hl
      refine lv_aload hx hb dJ22_shiftLeft_2_73 (lv_at hl 0 rfl) ?_
      refine lv_iload hx hb dJ22_shiftLeft_2_75 (lv_at hl 3 rfl) ?_
      refine lv_iinc (k := 3) (v := (nI 1)) hx hb dJ22_shiftLeft_2_77 hl rfl (ai_add (a := 0) (b := 1) (rfl) (show Int32.ofInt 1 = nI 1 by decide)) (by decide) rfl (fun ls hl => ?_)
      have hl : lv_has ls 10 [(6, .int (nI 1)), (5, .ref qb), (8, .int (nI ((d 0) / 2 ^ (32 - (n % 32))))), (7, .int (nI (32 - (n % 32)))), (4, .int (nI xl)), (3, .int (nI (n % 32))), (2, .int (nI (n / 32))), (0, .ref b), (1, .int (nI n))] := hl
      refine lv_iload hx hb dJ22_shiftLeft_2_80 (lv_at hl 2 rfl) ?_
      refine gw_iast (f := (dI (fun _ => 0))) hx hb hal h_qb hS (by have hsz := hS.1; (try dsimp only [gfr]) <;> omega) 0 (rfl) (by omega) (by omega) dJ22_shiftLeft_2_82 (fun H_9 locs h_new hch hS => ?_)
      have hB := hB.ch hch (by omega)
      have sz_H_9 := hch.1
      clear hch
      have h_qb : gI z true .int H_9 qb ((xl + (n / 32)) + 1) (upd (dI (fun _ => 0)) 0 (nI ((d 0) / 2 ^ (32 - (n % 32))))) := h_new
      replace h_qb : gI z true .int H_9 qb ((xl + (n / 32)) + 1) (dI (dup (fun _ => 0) 0 (((d 0) / 2 ^ (32 - (n % 32))) % 4294967296))) := by
        have q := h_qb
        rw [dI_put] at q
        exact q
      have bd_10 : ∀ i, (dup (fun _ => 0) 0 (((d 0) / 2 ^ (32 - (n % 32))) % 4294967296)) i < 4294967296 := dup_lt (fun _ => by decide) (Nat.mod_lt _ (by decide))
      refine lv_goto (tgt := 94) hx hb dJ22_shiftLeft_2_83 (by decide) ?_
      refine lv_iload hx hb dJ22_shiftLeft_2_94 (lv_at hl 4 rfl) ?_
      refine lv_iconst (v := 1) hx hb dJ22_shiftLeft_2_96 (by decide) ?_
      refine lv_isub hx hb dJ22_shiftLeft_2_97 ?_
      refine g_topi (v := nI (xl - 1)) (ai_sub (a := xl) (b := 1) (rfl) (rfl) (by omega)) ?_
      refine lv_istore hx hb dJ22_shiftLeft_2_98 hl (by decide) rfl (fun ls hl => ?_)
      have hl : lv_has ls 10 [(9, .int (nI (xl - 1))), (6, .int (nI 1)), (5, .ref qb), (8, .int (nI ((d 0) / 2 ^ (32 - (n % 32))))), (7, .int (nI (32 - (n % 32)))), (4, .int (nI xl)), (3, .int (nI (n % 32))), (2, .int (nI (n / 32))), (0, .ref b), (1, .int (nI n))] := hl
      refine lv_iconst (v := 0) hx hb dJ22_shiftLeft_2_100 (by decide) ?_
      refine lv_iload hx hb dJ22_shiftLeft_2_101 (lv_at hl 0 rfl) ?_
      refine lv_iconst (v := 1) hx hb dJ22_shiftLeft_2_103 (by decide) ?_
      refine lv_iadd hx hb dJ22_shiftLeft_2_104 ?_
      refine g_topi (v := nI ((xl - 1) + 1)) (ai_add (a := (xl - 1)) (b := 1) (rfl) (rfl)) ?_
      refine lv_aload_n hx hb dJ22_shiftLeft_2_105 rfl (lv_at hl 8 rfl) ?_
      refine gw_len hx hb hal hB dJ22_shiftLeft_2_106 ?_
      refine gcS3_iP hCF hwm hl.1 (m_objCheck l z H_9  0 (xl - 1 + 1) xl (by omega) (by omega) (by omega) ) (lw_S q1248 q630 q81 q631) yd_J20_checkFromToIndex ⟨Nat.le_of_ble_eq_true rfl, Nat.le_of_ble_eq_true rfl⟩ ⟨by first | omega | (dsimp only; omega), by first | omega | (dsimp only; omega)⟩ (Nat.le_of_ble_eq_true rfl) dJ22_shiftLeft_2_107 (fun r_11 hp => ?_)
      subst hp
      refine lv_pop hx hb dJ22_shiftLeft_2_110 rfl ?_
      refine lv_iload hx hb dJ22_shiftLeft_2_111 (lv_at hl 1 rfl) ?_
      refine lv_iload hx hb dJ22_shiftLeft_2_113 (lv_at hl 0 rfl) ?_
      refine lv_iload hx hb dJ22_shiftLeft_2_115 (lv_at hl 1 rfl) ?_
      refine lv_iadd hx hb dJ22_shiftLeft_2_117 ?_
      refine g_topi (v := nI ((xl - 1) + 1)) (ai_add (a := (xl - 1)) (b := 1) (rfl) (rfl)) ?_
      refine lv_iconst (v := 1) hx hb dJ22_shiftLeft_2_118 (by decide) ?_
      refine lv_iadd hx hb dJ22_shiftLeft_2_119 ?_
      refine g_topi (v := nI (((xl - 1) + 1) + 1)) (ai_add (a := ((xl - 1) + 1)) (b := 1) (rfl) (rfl)) ?_
      refine lv_aload hx hb dJ22_shiftLeft_2_120 (lv_at hl 2 rfl) ?_
      refine gw_len hx hb hal h_qb dJ22_shiftLeft_2_122 ?_
      refine gcS3_iP hCF hwm hl.1 (m_objCheck l z H_9  1 (xl - 1 + 1 + 1) (xl + n / 32 + 1) (by omega) (by omega) (by omega) ) (lw_S q1248 q630 q81 q631) yd_J20_checkFromToIndex ⟨Nat.le_of_ble_eq_true rfl, Nat.le_of_ble_eq_true rfl⟩ ⟨by first | omega | (dsimp only; omega), by first | omega | (dsimp only; omega)⟩ (Nat.le_of_ble_eq_true rfl) dJ22_shiftLeft_2_123 (fun r_12 hp => ?_)
      subst hp
      refine lv_pop hx hb dJ22_shiftLeft_2_126 rfl ?_
      refine lv_aload hx hb dJ22_shiftLeft_2_127 (lv_at hl 2 rfl) ?_
      refine lv_aload_n hx hb dJ22_shiftLeft_2_129 rfl (lv_at hl 8 rfl) ?_
      refine lv_iload hx hb dJ22_shiftLeft_2_130 (lv_at hl 1 rfl) ?_
      refine lv_iload_n hx hb dJ22_shiftLeft_2_132 rfl (lv_at hl 6 rfl) ?_
      refine lv_iload hx hb dJ22_shiftLeft_2_133 (lv_at hl 0 rfl) ?_
      have hsz := hS.1
      refine gcS5_v hCF hwm hl.1 (m_shlWork l z H_9 qb b 1 (n % 32) (xl - 1) (xl + n / 32 + 1) xl w d (dup (fun _ => 0) 0 (((d 0) / 2 ^ (32 - (n % 32))) % 4294967296)) (by omega) (by omega) (by omega) (by omega) (by omega) (by omega) (by omega) hd bd_10 h_qb hB ) (lw_S q1249 q1250 q83 q1251) yd_J22_shiftLeftImplWorker hS (fun q h => by have hsz := hS.1; (try dsimp only [gfr] at h ⊢) <;> omega) ⟨Nat.le_of_ble_eq_true rfl, Nat.le_of_ble_eq_true rfl⟩ ⟨by first | omega | (dsimp only; omega), by first | omega | (dsimp only; omega)⟩ (Nat.le_of_ble_eq_true rfl) dJ22_shiftLeft_2_135 (fun H_13 locs hp hex hS => ?_)
      have sz_H_13 : H_9.size ≤ H_13.size := hex.1
      have hB := hB.ex hex (by intro h; (try dsimp only [gfr] at h) <;> omega)
      have h_qb := hp
      have lt_qb := h_qb.lt
      refine lv_aload hx hb dJ22_shiftLeft_2_138 (lv_at hl 2 rfl) ?_
      refine lv_iload hx hb dJ22_shiftLeft_2_140 (lv_at hl 0 rfl) ?_
      refine lv_iload hx hb dJ22_shiftLeft_2_142 (lv_at hl 1 rfl) ?_
      refine lv_iadd hx hb dJ22_shiftLeft_2_144 ?_
      refine g_topi (v := nI ((xl - 1) + 1)) (ai_add (a := (xl - 1)) (b := 1) (rfl) (rfl)) ?_
      refine lv_aload_n hx hb dJ22_shiftLeft_2_145 rfl (lv_at hl 8 rfl) ?_
      refine lv_iload hx hb dJ22_shiftLeft_2_146 (lv_at hl 0 rfl) ?_
      refine gw_iald hx hb hal hB (xl - 1) (rfl) (by omega) (by omega) dJ22_shiftLeft_2_148 ?_
      refine g_topi (v := (nI (d (xl - 1)))) rfl ?_
      refine lv_iload_n hx hb dJ22_shiftLeft_2_149 rfl (lv_at hl 6 rfl) ?_
      refine lv_ishl hx hb dJ22_shiftLeft_2_150 ?_
      refine g_topi (v := nI ((d (xl - 1)) * 2 ^ (n % 32))) (ai_shlv (a := (d (xl - 1))) (k := (n % 32)) (rfl) (rfl) (by omega)) ?_
      refine gw_iast (f := (dI (wk d (dup (fun _ => 0) 0 (((d 0) / 2 ^ (32 - (n % 32))) % 4294967296)) 1 (n % 32) (xl - 1)))) hx hb hal h_qb hS (by have hsz := hS.1; (try dsimp only [gfr]) <;> omega) ((xl - 1) + 1) (rfl) (by omega) (by omega) dJ22_shiftLeft_2_151 (fun H_15 locs h_new hch hS => ?_)
      have hB := hB.ch hch (by omega)
      have sz_H_15 := hch.1
      clear hch
      have h_qb : gI z true .int H_15 qb (xl + n / 32 + 1) (upd (dI (wk d (dup (fun _ => 0) 0 (((d 0) / 2 ^ (32 - (n % 32))) % 4294967296)) 1 (n % 32) (xl - 1))) ((xl - 1) + 1) (nI ((d (xl - 1)) * 2 ^ (n % 32)))) := h_new
      replace h_qb : gI z true .int H_15 qb (xl + n / 32 + 1) (dI (dup (wk d (dup (fun _ => 0) 0 (((d 0) / 2 ^ (32 - (n % 32))) % 4294967296)) 1 (n % 32) (xl - 1)) ((xl - 1) + 1) (((d (xl - 1)) * 2 ^ (n % 32)) % 4294967296))) := by
        have q := h_qb
        rw [dI_put] at q
        exact q
      have bd_16 : ∀ i, (dup (wk d (dup (fun _ => 0) 0 (((d 0) / 2 ^ (32 - (n % 32))) % 4294967296)) 1 (n % 32) (xl - 1)) ((xl - 1) + 1) (((d (xl - 1)) * 2 ^ (n % 32)) % 4294967296)) i < 4294967296 := dup_lt (wk_lt hd bd_10 (by omega) (by omega)) (Nat.mod_lt _ (by decide))
      refine lv_aload hx hb dJ22_shiftLeft_2_152 (lv_at hl 2 rfl) ?_
      refine g_aret hx hb hr hlocks (Or.inr ⟨_, rfl⟩) hS (by first | omega | (dsimp only; omega)) (by first | omega | (dsimp only; omega)) ?_ dJ22_shiftLeft_2_154
      refine ⟨by omega, _, _, bd_16, h_qb, ?_, ?_, by omega, by omega⟩
      · rw [sh_end hd (o := 1) (s := n % 32) (n := xl) (q := n / 32) (by omega) (by omega) hx0 (by omega) (fun q => by omega) (fun _ => by rw [dup_s, Nat.mod_eq_of_lt (by have := hd 0; omega)]) (fun i hi => dup_n (by omega)), div32]
      · rw [dup_n (by omega)]
        unfold wk
        rw [if_neg (by omega), dup_s, Nat.mod_eq_of_lt (by have := hd 0; omega)]
        omega
  · skip
    have c_17 := (ai_eq (a := (n % 32)) (b := 0) (rfl) (rfl) (by omega) (by omega)).mp c_17
    refine lv_iload hx hb dJ22_shiftLeft_2_20 (lv_at hl 1 rfl) ?_
    refine lv_iload_n hx hb dJ22_shiftLeft_2_22 rfl (lv_at hl 3 rfl) ?_
    refine lv_iadd hx hb dJ22_shiftLeft_2_23 ?_
    refine g_topi (v := nI (xl + (n / 32))) (ai_add (a := xl) (b := (n / 32)) (rfl) (rfl)) ?_
    refine gw_newa (atype := .int) (ty := .int) (N' := (xl + (n / 32))) hx hb (hts _ q990) rfl hal hS (rfl) (by omega) (by simp [componentBytes]; omega) (by first | omega | (dsimp only; omega)) (by first | omega | (dsimp only; omega)) dJ22_shiftLeft_2_24 (fun qa H_17 eqa zqa hgx h_qa hS => ?_)
    have hB := hB.x hgx
    have h_qa : gI z true .int H_17 qa (xl + (n / 32)) (fun _ => 0) := h_qa
    have h_qa : gI z true .int H_17 qa (xl + (n / 32)) (dI (fun _ => 0)) := h_qa
    refine lv_astore hx hb dJ22_shiftLeft_2_26 hl (by decide) rfl (fun ls hl => ?_)
    have hl : lv_has ls 10 [(5, .ref qa), (4, .int (nI xl)), (3, .int (nI (n % 32))), (2, .int (nI (n / 32))), (0, .ref b), (1, .int (nI n))] := hl
    refine lv_aload_n hx hb dJ22_shiftLeft_2_28 rfl (lv_at hl 4 rfl) ?_
    refine lv_iconst (v := 0) hx hb dJ22_shiftLeft_2_29 (by decide) ?_
    refine lv_aload hx hb dJ22_shiftLeft_2_30 (lv_at hl 0 rfl) ?_
    refine lv_iconst (v := 0) hx hb dJ22_shiftLeft_2_32 (by decide) ?_
    refine lv_iload hx hb dJ22_shiftLeft_2_33 (lv_at hl 1 rfl) ?_
    refine gw_copy hx hb (hml.trans hl.1.symm) hal hown (hts _ q1264) (hts _ q288) (hts _ q287) (hts _ q74) rfl hB h_qa hS (by have hsz := hS.1; (try dsimp only [gfr]) <;> omega) 0 0 xl (rfl) (rfl) (rfl) (by omega) (by omega) (by omega) (by omega) (fun _ _ => rfl) (Nat.le_of_ble_eq_true rfl) (Nat.le_of_ble_eq_true rfl) dJ22_shiftLeft_2_35 (fun H_18 locs h_new hch hS => ?_)
    have hB := hB.ch hch (by omega)
    have sz_H_18 := hch.1
    clear hch
    have h_qa : gI z true .int H_18 qa (xl + (n / 32)) (va_cpy (dI d) (dI (fun _ => 0)) 0 0 xl) := h_new
    refine lv_goto (tgt := 152) hx hb dJ22_shiftLeft_2_38 (by decide) ?_
    refine lv_aload hx hb dJ22_shiftLeft_2_152 (lv_at hl 0 rfl) ?_
    refine g_aret hx hb hr hlocks (Or.inr ⟨_, rfl⟩) hS (by first | omega | (dsimp only; omega)) (by first | omega | (dsimp only; omega)) ?_ dJ22_shiftLeft_2_154
    rw [cpy_dig] at h_qa
    refine ⟨by omega, _, _, ?_, h_qa, ?_, ?_, by omega, by omega⟩
    · intro i
      show (if i < xl then d i else 0) < _
      split
      · exact hd i
      · decide
    · rw [val_shift0]
      congr 2
      omega
    · show (if 0 < xl then d 0 else 0) ≠ 0
      rw [if_pos hx0]
      exact h00
