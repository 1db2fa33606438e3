/-! ## walks (written by tools) -/
set_option maxRecDepth 100000
def dkwX1_isAllThere_7 : List UInt8 := [16, 32, 123, 55, 10, 132, 12, 32, 167, 255, 189, 22, 10, 9, 148, 154, 0, 7, 4, 167, 0, 4, 3, 172]
abbrev dktX1_isAllThere_7 : List UInt8 := dkwX1_isAllThere_7 ++ []
def dkwX1_isAllThere_6 : List UInt8 := [21, 12, 184, 1, 120, 101, 97, 55, 10, 22, 10, 20, 0, 150, 127, 9, 148, 153, 0, 5, 3, 172, 22, 10]
abbrev dktX1_isAllThere_6 : List UInt8 := dkwX1_isAllThere_6 ++ dktX1_isAllThere_7
def dkwX1_isAllThere_5 : List UInt8 := [24, 4, 21, 12, 184, 1, 120, 24, 6, 21, 12, 184, 1, 120, 97, 38, 21, 12, 184, 1, 120, 101, 40]
abbrev dktX1_isAllThere_5 : List UInt8 := dkwX1_isAllThere_5 ++ dktX1_isAllThere_6
def dkwX1_isAllThere_4 : List UInt8 := [184, 0, 191, 54, 9, 9, 55, 10, 21, 8, 54, 12, 21, 12, 21, 9, 16, 52, 96, 163, 0, 63, 22, 10]
abbrev dktX1_isAllThere_4 : List UInt8 := dkwX1_isAllThere_4 ++ dktX1_isAllThere_5
def dkwX1_isAllThere_3 : List UInt8 := [38, 184, 0, 93, 40, 184, 0, 93, 184, 0, 191, 24, 4, 184, 0, 93, 24, 6, 184, 0, 93, 184, 0, 191]
abbrev dktX1_isAllThere_3 : List UInt8 := dkwX1_isAllThere_3 ++ dktX1_isAllThere_4
def dkwX1_isAllThere_2 : List UInt8 := [184, 1, 114, 184, 1, 117, 24, 4, 184, 1, 114, 24, 6, 184, 1, 114, 184, 1, 117, 184, 1, 117, 54, 8]
abbrev dktX1_isAllThere_2 : List UInt8 := dkwX1_isAllThere_2 ++ dktX1_isAllThere_3
def dkwX1_isAllThere_1 : List UInt8 := [153, 0, 17, 24, 4, 40, 151, 154, 0, 12, 24, 6, 38, 151, 154, 0, 5, 4, 172, 38, 184, 1, 114, 40]
abbrev dktX1_isAllThere_1 : List UInt8 := dkwX1_isAllThere_1 ++ dktX1_isAllThere_2
def dkwX1_isAllThere_0 : List UInt8 := [38, 40, 99, 57, 4, 38, 40, 184, 0, 211, 57, 6, 24, 4, 38, 151, 154, 0, 10, 24, 6, 40, 151]
abbrev dktX1_isAllThere_0 : List UInt8 := dkwX1_isAllThere_0 ++ dktX1_isAllThere_1
theorem dksX1_isAllThere_0 : cX1_isAllThere.data.toList.drop 0 = dktX1_isAllThere_0 := by decide +kernel
theorem dksX1_isAllThere_1 : cX1_isAllThere.data.toList.drop 23 = dktX1_isAllThere_1 := dk_seg dksX1_isAllThere_0 23 rfl rfl
theorem dksX1_isAllThere_2 : cX1_isAllThere.data.toList.drop 47 = dktX1_isAllThere_2 := dk_seg dksX1_isAllThere_1 24 rfl rfl
theorem dksX1_isAllThere_3 : cX1_isAllThere.data.toList.drop 71 = dktX1_isAllThere_3 := dk_seg dksX1_isAllThere_2 24 rfl rfl
theorem dksX1_isAllThere_4 : cX1_isAllThere.data.toList.drop 95 = dktX1_isAllThere_4 := dk_seg dksX1_isAllThere_3 24 rfl rfl
theorem dksX1_isAllThere_5 : cX1_isAllThere.data.toList.drop 119 = dktX1_isAllThere_5 := dk_seg dksX1_isAllThere_4 24 rfl rfl
theorem dksX1_isAllThere_6 : cX1_isAllThere.data.toList.drop 142 = dktX1_isAllThere_6 := dk_seg dksX1_isAllThere_5 23 rfl rfl
theorem dksX1_isAllThere_7 : cX1_isAllThere.data.toList.drop 166 = dktX1_isAllThere_7 := dk_seg dksX1_isAllThere_6 24 rfl rfl
theorem dX1_isAllThere_0 : decode cX1_isAllThere 0 = .ok (.dload_n 0, 1) := dk_38 (dk_at dksX1_isAllThere_0 0 rfl rfl)
theorem dX1_isAllThere_1 : decode cX1_isAllThere 1 = .ok (.dload_n 2, 1) := dk_40 (dk_at dksX1_isAllThere_0 1 rfl rfl)
theorem dX1_isAllThere_2 : decode cX1_isAllThere 2 = .ok (.dadd, 1) := dk_99 (dk_at dksX1_isAllThere_0 2 rfl rfl)
theorem dX1_isAllThere_3 : decode cX1_isAllThere 3 = .ok (.dstore 4, 2) := dk_57 4 (dk_at dksX1_isAllThere_0 3 rfl rfl)
theorem dX1_isAllThere_5 : decode cX1_isAllThere 5 = .ok (.dload_n 0, 1) := dk_38 (dk_at dksX1_isAllThere_0 5 rfl rfl)
theorem dX1_isAllThere_6 : decode cX1_isAllThere 6 = .ok (.dload_n 2, 1) := dk_40 (dk_at dksX1_isAllThere_0 6 rfl rfl)
theorem dX1_isAllThere_7 : decode cX1_isAllThere 7 = .ok (.invokestatic 211, 3) := dk_184 0 211 (dk_at dksX1_isAllThere_0 7 rfl rfl)
theorem dX1_isAllThere_10 : decode cX1_isAllThere 10 = .ok (.dstore 6, 2) := dk_57 6 (dk_at dksX1_isAllThere_0 10 rfl rfl)
theorem dX1_isAllThere_12 : decode cX1_isAllThere 12 = .ok (.dload 4, 2) := dk_24 4 (dk_at dksX1_isAllThere_0 12 rfl rfl)
theorem dX1_isAllThere_14 : decode cX1_isAllThere 14 = .ok (.dload_n 0, 1) := dk_38 (dk_at dksX1_isAllThere_0 14 rfl rfl)
theorem dX1_isAllThere_15 : decode cX1_isAllThere 15 = .ok (.dcmp .l, 1) := dk_151 (dk_at dksX1_isAllThere_0 15 rfl rfl)
theorem dX1_isAllThere_16 : decode cX1_isAllThere 16 = .ok (.ifCond .ne 10, 3) := dk_154 0 10 (dk_at dksX1_isAllThere_0 16 rfl rfl)
theorem dX1_isAllThere_19 : decode cX1_isAllThere 19 = .ok (.dload 6, 2) := dk_24 6 (dk_at dksX1_isAllThere_0 19 rfl rfl)
theorem dX1_isAllThere_21 : decode cX1_isAllThere 21 = .ok (.dload_n 2, 1) := dk_40 (dk_at dksX1_isAllThere_0 21 rfl rfl)
theorem dX1_isAllThere_22 : decode cX1_isAllThere 22 = .ok (.dcmp .l, 1) := dk_151 (dk_at dksX1_isAllThere_0 22 rfl rfl)
theorem dX1_isAllThere_23 : decode cX1_isAllThere 23 = .ok (.ifCond .eq 17, 3) := dk_153 0 17 (dk_at dksX1_isAllThere_1 0 rfl rfl)
theorem dX1_isAllThere_26 : decode cX1_isAllThere 26 = .ok (.dload 4, 2) := dk_24 4 (dk_at dksX1_isAllThere_1 3 rfl rfl)
theorem dX1_isAllThere_28 : decode cX1_isAllThere 28 = .ok (.dload_n 2, 1) := dk_40 (dk_at dksX1_isAllThere_1 5 rfl rfl)
theorem dX1_isAllThere_29 : decode cX1_isAllThere 29 = .ok (.dcmp .l, 1) := dk_151 (dk_at dksX1_isAllThere_1 6 rfl rfl)
theorem dX1_isAllThere_30 : decode cX1_isAllThere 30 = .ok (.ifCond .ne 12, 3) := dk_154 0 12 (dk_at dksX1_isAllThere_1 7 rfl rfl)
theorem dX1_isAllThere_33 : decode cX1_isAllThere 33 = .ok (.dload 6, 2) := dk_24 6 (dk_at dksX1_isAllThere_1 10 rfl rfl)
theorem dX1_isAllThere_35 : decode cX1_isAllThere 35 = .ok (.dload_n 0, 1) := dk_38 (dk_at dksX1_isAllThere_1 12 rfl rfl)
theorem dX1_isAllThere_36 : decode cX1_isAllThere 36 = .ok (.dcmp .l, 1) := dk_151 (dk_at dksX1_isAllThere_1 13 rfl rfl)
theorem dX1_isAllThere_37 : decode cX1_isAllThere 37 = .ok (.ifCond .ne 5, 3) := dk_154 0 5 (dk_at dksX1_isAllThere_1 14 rfl rfl)
theorem dX1_isAllThere_40 : decode cX1_isAllThere 40 = .ok (.iconst 1, 1) := dk_4 (dk_at dksX1_isAllThere_1 17 rfl rfl)
theorem dX1_isAllThere_41 : decode cX1_isAllThere 41 = .ok (.ireturn, 1) := dk_172 (dk_at dksX1_isAllThere_1 18 rfl rfl)
theorem dX1_isAllThere_42 : decode cX1_isAllThere 42 = .ok (.dload_n 0, 1) := dk_38 (dk_at dksX1_isAllThere_1 19 rfl rfl)
theorem dX1_isAllThere_43 : decode cX1_isAllThere 43 = .ok (.invokestatic 370, 3) := dk_184 1 114 (dk_at dksX1_isAllThere_1 20 rfl rfl)
theorem dX1_isAllThere_46 : decode cX1_isAllThere 46 = .ok (.dload_n 2, 1) := dk_40 (dk_at dksX1_isAllThere_1 23 rfl rfl)
theorem dX1_isAllThere_47 : decode cX1_isAllThere 47 = .ok (.invokestatic 370, 3) := dk_184 1 114 (dk_at dksX1_isAllThere_2 0 rfl rfl)
theorem dX1_isAllThere_50 : decode cX1_isAllThere 50 = .ok (.invokestatic 373, 3) := dk_184 1 117 (dk_at dksX1_isAllThere_2 3 rfl rfl)
theorem dX1_isAllThere_53 : decode cX1_isAllThere 53 = .ok (.dload 4, 2) := dk_24 4 (dk_at dksX1_isAllThere_2 6 rfl rfl)
theorem dX1_isAllThere_55 : decode cX1_isAllThere 55 = .ok (.invokestatic 370, 3) := dk_184 1 114 (dk_at dksX1_isAllThere_2 8 rfl rfl)
theorem dX1_isAllThere_58 : decode cX1_isAllThere 58 = .ok (.dload 6, 2) := dk_24 6 (dk_at dksX1_isAllThere_2 11 rfl rfl)
theorem dX1_isAllThere_60 : decode cX1_isAllThere 60 = .ok (.invokestatic 370, 3) := dk_184 1 114 (dk_at dksX1_isAllThere_2 13 rfl rfl)
theorem dX1_isAllThere_63 : decode cX1_isAllThere 63 = .ok (.invokestatic 373, 3) := dk_184 1 117 (dk_at dksX1_isAllThere_2 16 rfl rfl)
theorem dX1_isAllThere_66 : decode cX1_isAllThere 66 = .ok (.invokestatic 373, 3) := dk_184 1 117 (dk_at dksX1_isAllThere_2 19 rfl rfl)
theorem dX1_isAllThere_69 : decode cX1_isAllThere 69 = .ok (.istore 8, 2) := dk_54 8 (dk_at dksX1_isAllThere_2 22 rfl rfl)
theorem dX1_isAllThere_71 : decode cX1_isAllThere 71 = .ok (.dload_n 0, 1) := dk_38 (dk_at dksX1_isAllThere_3 0 rfl rfl)
theorem dX1_isAllThere_72 : decode cX1_isAllThere 72 = .ok (.invokestatic 93, 3) := dk_184 0 93 (dk_at dksX1_isAllThere_3 1 rfl rfl)
theorem dX1_isAllThere_75 : decode cX1_isAllThere 75 = .ok (.dload_n 2, 1) := dk_40 (dk_at dksX1_isAllThere_3 4 rfl rfl)
theorem dX1_isAllThere_76 : decode cX1_isAllThere 76 = .ok (.invokestatic 93, 3) := dk_184 0 93 (dk_at dksX1_isAllThere_3 5 rfl rfl)
theorem dX1_isAllThere_79 : decode cX1_isAllThere 79 = .ok (.invokestatic 191, 3) := dk_184 0 191 (dk_at dksX1_isAllThere_3 8 rfl rfl)
theorem dX1_isAllThere_82 : decode cX1_isAllThere 82 = .ok (.dload 4, 2) := dk_24 4 (dk_at dksX1_isAllThere_3 11 rfl rfl)
theorem dX1_isAllThere_84 : decode cX1_isAllThere 84 = .ok (.invokestatic 93, 3) := dk_184 0 93 (dk_at dksX1_isAllThere_3 13 rfl rfl)
theorem dX1_isAllThere_87 : decode cX1_isAllThere 87 = .ok (.dload 6, 2) := dk_24 6 (dk_at dksX1_isAllThere_3 16 rfl rfl)
theorem dX1_isAllThere_89 : decode cX1_isAllThere 89 = .ok (.invokestatic 93, 3) := dk_184 0 93 (dk_at dksX1_isAllThere_3 18 rfl rfl)
theorem dX1_isAllThere_92 : decode cX1_isAllThere 92 = .ok (.invokestatic 191, 3) := dk_184 0 191 (dk_at dksX1_isAllThere_3 21 rfl rfl)
theorem dX1_isAllThere_95 : decode cX1_isAllThere 95 = .ok (.invokestatic 191, 3) := dk_184 0 191 (dk_at dksX1_isAllThere_4 0 rfl rfl)
theorem dX1_isAllThere_98 : decode cX1_isAllThere 98 = .ok (.istore 9, 2) := dk_54 9 (dk_at dksX1_isAllThere_4 3 rfl rfl)
theorem dX1_isAllThere_100 : decode cX1_isAllThere 100 = .ok (.lconst 0, 1) := dk_9 (dk_at dksX1_isAllThere_4 5 rfl rfl)
theorem dX1_isAllThere_101 : decode cX1_isAllThere 101 = .ok (.lstore 10, 2) := dk_55 10 (dk_at dksX1_isAllThere_4 6 rfl rfl)
theorem dX1_isAllThere_103 : decode cX1_isAllThere 103 = .ok (.iload 8, 2) := dk_21 8 (dk_at dksX1_isAllThere_4 8 rfl rfl)
theorem dX1_isAllThere_105 : decode cX1_isAllThere 105 = .ok (.istore 12, 2) := dk_54 12 (dk_at dksX1_isAllThere_4 10 rfl rfl)
theorem dX1_isAllThere_107 : decode cX1_isAllThere 107 = .ok (.iload 12, 2) := dk_21 12 (dk_at dksX1_isAllThere_4 12 rfl rfl)
theorem dX1_isAllThere_109 : decode cX1_isAllThere 109 = .ok (.iload 9, 2) := dk_21 9 (dk_at dksX1_isAllThere_4 14 rfl rfl)
theorem dX1_isAllThere_111 : decode cX1_isAllThere 111 = .ok (.bipush 52, 2) := dk_16 52 (dk_at dksX1_isAllThere_4 16 rfl rfl)
theorem dX1_isAllThere_113 : decode cX1_isAllThere 113 = .ok (.iadd, 1) := dk_96 (dk_at dksX1_isAllThere_4 18 rfl rfl)
theorem dX1_isAllThere_114 : decode cX1_isAllThere 114 = .ok (.if_icmp .gt 63, 3) := dk_163 0 63 (dk_at dksX1_isAllThere_4 19 rfl rfl)
theorem dX1_isAllThere_117 : decode cX1_isAllThere 117 = .ok (.lload 10, 2) := dk_22 10 (dk_at dksX1_isAllThere_4 22 rfl rfl)
theorem dX1_isAllThere_119 : decode cX1_isAllThere 119 = .ok (.dload 4, 2) := dk_24 4 (dk_at dksX1_isAllThere_5 0 rfl rfl)
theorem dX1_isAllThere_121 : decode cX1_isAllThere 121 = .ok (.iload 12, 2) := dk_21 12 (dk_at dksX1_isAllThere_5 2 rfl rfl)
theorem dX1_isAllThere_123 : decode cX1_isAllThere 123 = .ok (.invokestatic 376, 3) := dk_184 1 120 (dk_at dksX1_isAllThere_5 4 rfl rfl)
theorem dX1_isAllThere_126 : decode cX1_isAllThere 126 = .ok (.dload 6, 2) := dk_24 6 (dk_at dksX1_isAllThere_5 7 rfl rfl)
theorem dX1_isAllThere_128 : decode cX1_isAllThere 128 = .ok (.iload 12, 2) := dk_21 12 (dk_at dksX1_isAllThere_5 9 rfl rfl)
theorem dX1_isAllThere_130 : decode cX1_isAllThere 130 = .ok (.invokestatic 376, 3) := dk_184 1 120 (dk_at dksX1_isAllThere_5 11 rfl rfl)
theorem dX1_isAllThere_133 : decode cX1_isAllThere 133 = .ok (.ladd, 1) := dk_97 (dk_at dksX1_isAllThere_5 14 rfl rfl)
theorem dX1_isAllThere_134 : decode cX1_isAllThere 134 = .ok (.dload_n 0, 1) := dk_38 (dk_at dksX1_isAllThere_5 15 rfl rfl)
theorem dX1_isAllThere_135 : decode cX1_isAllThere 135 = .ok (.iload 12, 2) := dk_21 12 (dk_at dksX1_isAllThere_5 16 rfl rfl)
theorem dX1_isAllThere_137 : decode cX1_isAllThere 137 = .ok (.invokestatic 376, 3) := dk_184 1 120 (dk_at dksX1_isAllThere_5 18 rfl rfl)
theorem dX1_isAllThere_140 : decode cX1_isAllThere 140 = .ok (.lsub, 1) := dk_101 (dk_at dksX1_isAllThere_5 21 rfl rfl)
theorem dX1_isAllThere_141 : decode cX1_isAllThere 141 = .ok (.dload_n 2, 1) := dk_40 (dk_at dksX1_isAllThere_5 22 rfl rfl)
theorem dX1_isAllThere_142 : decode cX1_isAllThere 142 = .ok (.iload 12, 2) := dk_21 12 (dk_at dksX1_isAllThere_6 0 rfl rfl)
theorem dX1_isAllThere_144 : decode cX1_isAllThere 144 = .ok (.invokestatic 376, 3) := dk_184 1 120 (dk_at dksX1_isAllThere_6 2 rfl rfl)
theorem dX1_isAllThere_147 : decode cX1_isAllThere 147 = .ok (.lsub, 1) := dk_101 (dk_at dksX1_isAllThere_6 5 rfl rfl)
theorem dX1_isAllThere_148 : decode cX1_isAllThere 148 = .ok (.ladd, 1) := dk_97 (dk_at dksX1_isAllThere_6 6 rfl rfl)
theorem dX1_isAllThere_149 : decode cX1_isAllThere 149 = .ok (.lstore 10, 2) := dk_55 10 (dk_at dksX1_isAllThere_6 7 rfl rfl)
theorem dX1_isAllThere_151 : decode cX1_isAllThere 151 = .ok (.lload 10, 2) := dk_22 10 (dk_at dksX1_isAllThere_6 9 rfl rfl)
theorem dX1_isAllThere_153 : decode cX1_isAllThere 153 = .ok (.ldc2_w 150, 3) := dk_20 0 150 (dk_at dksX1_isAllThere_6 11 rfl rfl)
theorem dX1_isAllThere_156 : decode cX1_isAllThere 156 = .ok (.land, 1) := dk_127 (dk_at dksX1_isAllThere_6 14 rfl rfl)
theorem dX1_isAllThere_157 : decode cX1_isAllThere 157 = .ok (.lconst 0, 1) := dk_9 (dk_at dksX1_isAllThere_6 15 rfl rfl)
theorem dX1_isAllThere_158 : decode cX1_isAllThere 158 = .ok (.lcmp, 1) := dk_148 (dk_at dksX1_isAllThere_6 16 rfl rfl)
theorem dX1_isAllThere_159 : decode cX1_isAllThere 159 = .ok (.ifCond .eq 5, 3) := dk_153 0 5 (dk_at dksX1_isAllThere_6 17 rfl rfl)
theorem dX1_isAllThere_162 : decode cX1_isAllThere 162 = .ok (.iconst 0, 1) := dk_3 (dk_at dksX1_isAllThere_6 20 rfl rfl)
theorem dX1_isAllThere_163 : decode cX1_isAllThere 163 = .ok (.ireturn, 1) := dk_172 (dk_at dksX1_isAllThere_6 21 rfl rfl)
theorem dX1_isAllThere_164 : decode cX1_isAllThere 164 = .ok (.lload 10, 2) := dk_22 10 (dk_at dksX1_isAllThere_6 22 rfl rfl)
theorem dX1_isAllThere_166 : decode cX1_isAllThere 166 = .ok (.bipush 32, 2) := dk_16 32 (dk_at dksX1_isAllThere_7 0 rfl rfl)
theorem dX1_isAllThere_168 : decode cX1_isAllThere 168 = .ok (.lshr, 1) := dk_123 (dk_at dksX1_isAllThere_7 2 rfl rfl)
theorem dX1_isAllThere_169 : decode cX1_isAllThere 169 = .ok (.lstore 10, 2) := dk_55 10 (dk_at dksX1_isAllThere_7 3 rfl rfl)
theorem dX1_isAllThere_171 : decode cX1_isAllThere 171 = .ok (.iinc 12 32, 3) := dk_132 12 32 (dk_at dksX1_isAllThere_7 5 rfl rfl)
theorem dX1_isAllThere_174 : decode cX1_isAllThere 174 = .ok (.goto (-67), 3) := dk_167 255 189 (dk_at dksX1_isAllThere_7 8 rfl rfl)
theorem dX1_isAllThere_177 : decode cX1_isAllThere 177 = .ok (.lload 10, 2) := dk_22 10 (dk_at dksX1_isAllThere_7 11 rfl rfl)
theorem dX1_isAllThere_179 : decode cX1_isAllThere 179 = .ok (.lconst 0, 1) := dk_9 (dk_at dksX1_isAllThere_7 13 rfl rfl)
theorem dX1_isAllThere_180 : decode cX1_isAllThere 180 = .ok (.lcmp, 1) := dk_148 (dk_at dksX1_isAllThere_7 14 rfl rfl)
theorem dX1_isAllThere_181 : decode cX1_isAllThere 181 = .ok (.ifCond .ne 7, 3) := dk_154 0 7 (dk_at dksX1_isAllThere_7 15 rfl rfl)
theorem dX1_isAllThere_184 : decode cX1_isAllThere 184 = .ok (.iconst 1, 1) := dk_4 (dk_at dksX1_isAllThere_7 18 rfl rfl)
theorem dX1_isAllThere_185 : decode cX1_isAllThere 185 = .ok (.goto 4, 3) := dk_167 0 4 (dk_at dksX1_isAllThere_7 19 rfl rfl)
theorem dX1_isAllThere_188 : decode cX1_isAllThere 188 = .ok (.iconst 0, 1) := dk_3 (dk_at dksX1_isAllThere_7 22 rfl rfl)
theorem dX1_isAllThere_189 : decode cX1_isAllThere 189 = .ok (.ireturn, 1) := dk_172 (dk_at dksX1_isAllThere_7 23 rfl rfl)
theorem yd_X1_lostOf : yX1_lostOf.cls ≠ "java/lang/invoke/MethodHandle" ∧ yX1_lostOf.cls ≠ "java/lang/invoke/VarHandle" ∧ (parseMethodDescriptor yX1_lostOf.desc).map (fun d => d.parameters.length) = some 2 := by decide +kernel
theorem yd_X1_pieceOf : yX1_pieceOf.cls ≠ "java/lang/invoke/MethodHandle" ∧ yX1_pieceOf.cls ≠ "java/lang/invoke/VarHandle" ∧ (parseMethodDescriptor yX1_pieceOf.desc).map (fun d => d.parameters.length) = some 2 := by decide +kernel
/-! ### a sum and what it lost, by 32 digits after 32 digits -/
def lst (x : UInt64) : Nat := if dP x = 0 then 2046 else max (dE x) 1 - 1
def qv (v : UInt64) (t : Nat) : Int := sv (dS v) (dU v / 2 ^ t)
def rst (x y : UInt64) (t : Nat) : Int := qv x t + qv y t - qv (FP.dadd x y) t - qv (lost x y) t
def allF (x y : UInt64) : Nat := min (min (lst x) (lst y)) (min (lst (FP.dadd x y)) (lst (lost x y)))
def allT (x y : UInt64) : Nat := max (max (dE x) (dE y)) (max (dE (FP.dadd x y)) (dE (lost x y)))
def pcs (x y : UInt64) (t : Nat) : Int := piece (FP.dadd x y) t + piece (lost x y) t - piece x t - piece y t
theorem nI_min {p q : Nat} (hp : p < 2 ^ 31) (hq : q < 2 ^ 31) : (if nI q < nI p then nI q else nI p) = nI (min p q) := by
  by_cases h : q < p
  · rw [if_pos ((nI_ltI hq hp).mpr h)]; congr 1; omega
  · rw [if_neg (fun c => h ((nI_ltI hq hp).mp c))]; congr 1; omega
theorem nI_max {p q : Nat} (hp : p < 2 ^ 31) (hq : q < 2 ^ 31) : (if nI p < nI q then nI q else nI p) = nI (max p q) := by
  by_cases h : p < q
  · rw [if_pos ((nI_ltI hp hq).mpr h)]; congr 1; omega
  · rw [if_neg (fun c => h ((nI_ltI hp hq).mp c))]; congr 1; omega
theorem lst_b {x : UInt64} (hx : dFin x) : lst x ≤ 2046 := by
  have := dE_lt hx
  unfold lst
  split <;> omega
theorem qv_step (v : UInt64) (t : Nat) : qv v t = qv v (t + 32) * 4294967296 + piece v t := by
  have h : dU v / 2 ^ t = dU v / 2 ^ (t + 32) * 4294967296 + dU v / 2 ^ t % 4294967296 := by
    rw [Nat.pow_add, ← Nat.div_div_eq_div_mul]
    have := Nat.div_add_mod (dU v / 2 ^ t) 4294967296
    show _ = dU v / 2 ^ t / 4294967296 * 4294967296 + _
    omega
  unfold qv piece
  generalize dU v / 2 ^ (t + 32) = a at *
  generalize dU v / 2 ^ t % 4294967296 = b at *
  rw [h]
  cases dS v <;> simp [sv] <;> omega
theorem rst_step (x y : UInt64) (t : Nat) : rst x y t + pcs x y t = rst x y (t + 32) * 4294967296 := by
  have h1 := qv_step x t
  have h2 := qv_step y t
  have h3 := qv_step (FP.dadd x y) t
  have h4 := qv_step (lost x y) t
  unfold rst pcs
  omega
theorem qv_all {v : UInt64} {t : Nat} (h : t ≤ lst v) : qv v t * (2 ^ t : Nat) = dZ v := by
  have hd : dU v / 2 ^ t * 2 ^ t = dU v := by
    by_cases h0 : dP v = 0
    · rw [dU_0.mpr h0]; simp
    · unfold lst at h
      rw [if_neg h0] at h
      apply Nat.div_mul_cancel
      unfold dU dQ
      exact Nat.dvd_trans (Nat.pow_dvd_pow 2 (by omega : t ≤ dE v - 1)) (Nat.dvd_mul_left _ _)
  unfold qv dZ sv
  generalize dU v / 2 ^ t = a at *
  rw [← hd]
  cases dS v <;> simp [Int.neg_mul]
theorem qv_rest (v : UInt64) (t : Nat) : ∃ r : Int, -(2 ^ t : Nat) < r ∧ r < (2 ^ t : Nat) ∧ dZ v = qv v t * (2 ^ t : Nat) + r := by
  refine ⟨sv (dS v) (dU v % 2 ^ t), ?_, ?_, ?_⟩
  · have := Nat.mod_lt (dU v) (Nat.two_pow_pos t)
    unfold sv; cases dS v <;> simp <;> omega
  · have := Nat.mod_lt (dU v) (Nat.two_pow_pos t)
    unfold sv; cases dS v <;> simp <;> omega
  · have := Nat.div_add_mod (dU v) (2 ^ t)
    unfold qv dZ sv
    generalize dU v / 2 ^ t = a at *
    generalize dU v % 2 ^ t = b at *
    rw [← this, Nat.mul_comm]
    cases dS v
    · simp
    · simp [Int.neg_mul]
      omega
theorem qv_top {v : UInt64} (hv : dFin v) {t : Nat} (h : dE v + 52 < t) : qv v t = 0 := by
  have h1 : dU v < 2 ^ t := by
    have hc := dC_lt hv
    unfold dU dQ
    have : dC v * 2 ^ (dE v - 1) < 2 ^ 53 * 2 ^ (dE v - 1) := Nat.mul_lt_mul_of_pos_right hc (Nat.two_pow_pos _)
    rw [← Nat.pow_add] at this
    exact Nat.lt_of_lt_of_le this (Nat.pow_le_pow_right (by decide) (by omega))
  unfold qv
  rw [Nat.div_eq_of_lt h1]
  cases dS v <;> rfl
theorem rst_F {x y : UInt64} (he : dZ (FP.dadd x y) + dZ (lost x y) = dZ x + dZ y) : rst x y (allF x y) = 0 := by
  have hF : allF x y ≤ lst x ∧ allF x y ≤ lst y ∧ allF x y ≤ lst (FP.dadd x y) ∧ allF x y ≤ lst (lost x y) := by unfold allF; omega
  generalize allF x y = t at *
  have h1 := qv_all hF.1
  have h2 := qv_all hF.2.1
  have h3 := qv_all hF.2.2.1
  have h4 := qv_all hF.2.2.2
  have hp : (0 : Int) < (2 ^ t : Nat) := by have := Nat.two_pow_pos t; omega
  have : rst x y t * (2 ^ t : Nat) = 0 := by
    unfold rst
    rw [Int.sub_mul, Int.sub_mul, Int.add_mul, h1, h2, h3, h4]
    omega
  rcases Int.mul_eq_zero.mp this with q | q
  · exact q
  · omega
theorem rst_b {x y : UInt64} (he : dZ (FP.dadd x y) + dZ (lost x y) = dZ x + dZ y) (t : Nat) : -4 < rst x y t ∧ rst x y t < 4 := by
  obtain ⟨r1, a1, b1, e1⟩ := qv_rest x t
  obtain ⟨r2, a2, b2, e2⟩ := qv_rest y t
  obtain ⟨r3, a3, b3, e3⟩ := qv_rest (FP.dadd x y) t
  obtain ⟨r4, a4, b4, e4⟩ := qv_rest (lost x y) t
  have h : rst x y t * (2 ^ t : Nat) = r3 + r4 - r1 - r2 := by
    unfold rst
    rw [Int.sub_mul, Int.sub_mul, Int.add_mul]
    omega
  generalize rst x y t = R at *
  have hp : (0 : Int) < (2 ^ t : Nat) := by have := Nat.two_pow_pos t; omega
  generalize ((2 ^ t : Nat) : Int) = D at *
  constructor
  · rcases Int.lt_or_le (-4) R with q | q
    · exact q
    · have := Int.mul_le_mul_of_nonneg_right q (Int.le_of_lt hp)
      omega
  · rcases Int.lt_or_le R 4 with q | q
    · exact q
    · have := Int.mul_le_mul_of_nonneg_right q (Int.le_of_lt hp)
      omega
theorem rst_top {x y : UInt64} (h : lok x y) {t : Nat} (ht : allT x y + 52 < t) : rst x y t = 0 := by
  unfold allT at ht
  unfold rst
  rw [qv_top h.1.1 (by omega), qv_top h.1.2 (by omega), qv_top h.2.1.1 (by omega), qv_top h.2.2.2.2 (by omega)]
  rfl
theorem piece_b (v : UInt64) (t : Nat) : -4294967296 < piece v t ∧ piece v t < 4294967296 := by
  have := Nat.mod_lt (dU v / 2 ^ t) (show 0 < 4294967296 by decide)
  unfold piece sv
  cases dS v <;> simp <;> omega
theorem lI_low (a : Int) : lI (a * 4294967296) &&& 4294967295 = 0 := by
  obtain ⟨n, hn, e, -⟩ := lI_nat (a * 4294967296)
  rw [e]
  have h := congrArg (fun y : Int64 => y.toBitVec.toNat) e
  simp only [wb_tn hn] at h
  have h2 : (lI (a * 4294967296)).toBitVec = BitVec.ofInt 64 (a * 4294967296) := rfl
  rw [h2, BitVec.toNat_ofInt] at h
  have h3 : n % 4294967296 = 0 := by omega
  rw [lN_mask, h3]
  rfl
theorem lI_sr32 {a : Int} (h1 : -2147483648 ≤ a) (h2 : a < 2147483648) : lI (a * 4294967296) >>> ((32 : Int32).toInt64 &&& 63) = lI a := by
  apply Int64.toInt_inj.mp
  rw [sar _ (show ((((32 : Int32).toInt64 &&& 63) : Int64).toBitVec.smod 64).toNat = 32 from by decide), lI_toInt (by omega) (by omega), lI_toInt (by omega) (by omega)]
  show a * 4294967296 / 4294967296 = a
  omega
theorem allF_b {x y : UInt64} (h : lok x y) : allF x y ≤ 2046 := by
  have := lst_b h.1.1
  unfold allF
  omega
theorem allT_b {x y : UInt64} (h : lok x y) : allT x y ≤ 2046 := by
  have h1 := dE_lt h.1.1
  have h2 := dE_lt h.1.2
  have h3 := dE_lt h.2.1.1
  have h4 := dE_lt h.2.2.2.2
  unfold allT
  omega

set_option maxHeartbeats 1000000 in
theorem m_isAllThere (l : Launch) (z : State) (H0 : Heap) (x : UInt64) (y : UInt64)  (h : lok x y) (he : dZ (FP.dadd x y) + dZ (lost x y) = dZ x + dZ y) : Met l yX1_isAllThere (ws_ yX1_isAllThere cX1_isAllThere 13 (some .boolean)) { frames := 7, cells := 0, slots := 0, locals := 153 } (gPc z H0 [.double x, .double y]) (gPi H0 (fun r => r = gb true)) 0 0 gno := by
  refine g_start (by decide +kernel) (Nat.le_of_ble_eq_true rfl) ?_
  intro p e s m below meth c ls hx hb hr hlocks hml hown hname hts hwm hl
  have hown : s.vm.findClass "Nearplaces" = some m.cls := hown
  have hal : z.vm.Alike s.vm := hwm.alike
  have hCF : CallFix p m c cX1_isAllThere 13 s [.double x, .double y].toArray lw_all "Nearplaces" := ⟨hx, hb, hml, hown, hts⟩
  have hl : lv_has ls 13 [(0, .double x), (2, .double y)] := hl
  refine lv_dload_n hx hb dX1_isAllThere_0 rfl (lv_at hl 0 rfl) ?_
  refine lv_dload_n hx hb dX1_isAllThere_1 rfl (lv_at hl 1 rfl) ?_
  refine lv_dadd hx hb dX1_isAllThere_2 (n64 h.2.1.1.num) ?_
  refine lv_dstore hx hb dX1_isAllThere_3 hl (by decide) rfl (fun ls hl => ?_)
  have hl : lv_has ls 13 [(4, .double (FP.dadd x y)), (0, .double x), (2, .double y)] := hl
  refine lv_dload_n hx hb dX1_isAllThere_5 rfl (lv_at hl 1 rfl) ?_
  refine lv_dload_n hx hb dX1_isAllThere_6 rfl (lv_at hl 2 rfl) ?_
  refine gcS2_dP hCF hwm hl.1 (m_lostOf l z H0 x y h ) (lw_S q2202 q2203 q65 q2204) yd_X1_lostOf ⟨Nat.le_of_ble_eq_true rfl, Nat.le_of_ble_eq_true rfl⟩ ⟨Nat.le_of_ble_eq_true rfl, Nat.le_of_ble_eq_true rfl⟩ (Nat.le_of_ble_eq_true rfl) dX1_isAllThere_7 (fun r_1 hp => ?_)
  subst hp
  refine lv_dstore hx hb dX1_isAllThere_10 hl (by decide) rfl (fun ls hl => ?_)
  have hl : lv_has ls 13 [(6, .double (lost x y)), (4, .double (FP.dadd x y)), (0, .double x), (2, .double y)] := hl
  refine lv_dload hx hb dX1_isAllThere_12 (lv_at hl 1 rfl) ?_
  refine lv_dload_n hx hb dX1_isAllThere_14 rfl (lv_at hl 2 rfl) ?_
  refine lv_dcmp hx hb dX1_isAllThere_15 ?_
  refine g_topi (v := (cK (FP.dadd x y) x)) (cK_of h.2.1.1.num h.1.1.num) ?_
  refine lv_if_ne (tgt := 26) hx hb dX1_isAllThere_16 (by decide) (fun c_16 => ?_) (fun c_16 => ?_)
  · skip
    refine lv_dload hx hb dX1_isAllThere_26 (lv_at hl 1 rfl) ?_
    refine lv_dload_n hx hb dX1_isAllThere_28 rfl (lv_at hl 3 rfl) ?_
    refine lv_dcmp hx hb dX1_isAllThere_29 ?_
    refine g_topi (v := (cK (FP.dadd x y) y)) (cK_of h.2.1.1.num h.1.2.num) ?_
    refine lv_if_ne (tgt := 42) hx hb dX1_isAllThere_30 (by decide) (fun c_30 => ?_) (fun c_30 => ?_)
    · skip
      refine lv_dload_n hx hb dX1_isAllThere_42 rfl (lv_at hl 2 rfl) ?_
      refine gcS1_iP hCF hwm hl.1 (m_lastOf l z H0 x h.1.1.num ) (lw_S q2212 q2213 q65 q2214) yd_X1_lastOf ⟨Nat.le_of_ble_eq_true rfl, Nat.le_of_ble_eq_true rfl⟩ ⟨Nat.le_of_ble_eq_true rfl, Nat.le_of_ble_eq_true rfl⟩ (Nat.le_of_ble_eq_true rfl) dX1_isAllThere_43 (fun r_2 hp => ?_)
      subst hp
      refine g_topi (v := (nI (lst x))) (rfl) ?_
      refine lv_dload_n hx hb dX1_isAllThere_46 rfl (lv_at hl 3 rfl) ?_
      refine gcS1_iP hCF hwm hl.1 (m_lastOf l z H0 y h.1.2.num ) (lw_S q2212 q2213 q65 q2214) yd_X1_lastOf ⟨Nat.le_of_ble_eq_true rfl, Nat.le_of_ble_eq_true rfl⟩ ⟨Nat.le_of_ble_eq_true rfl, Nat.le_of_ble_eq_true rfl⟩ (Nat.le_of_ble_eq_true rfl) dX1_isAllThere_47 (fun r_3 hp => ?_)
      subst hp
      refine g_topi (v := (nI (lst y))) (rfl) ?_
      refine gcS2_iP hCF hwm hl.1 (m_minI l z H0 (nI (lst x)) (nI (lst y))  ) (lw_S q2215 q284 q72 q285) yd_J12_min ⟨Nat.le_of_ble_eq_true rfl, Nat.le_of_ble_eq_true rfl⟩ ⟨Nat.le_of_ble_eq_true rfl, Nat.le_of_ble_eq_true rfl⟩ (Nat.le_of_ble_eq_true rfl) dX1_isAllThere_50 (fun r_4 hp => ?_)
      subst hp
      refine g_topi (v := (nI (min (lst x) (lst y)))) (nI_min (by have := lst_b h.1.1; omega) (by have := lst_b h.1.2; omega)) ?_
      refine lv_dload hx hb dX1_isAllThere_53 (lv_at hl 1 rfl) ?_
      refine gcS1_iP hCF hwm hl.1 (m_lastOf l z H0 (FP.dadd x y) h.2.1.1.num ) (lw_S q2212 q2213 q65 q2214) yd_X1_lastOf ⟨Nat.le_of_ble_eq_true rfl, Nat.le_of_ble_eq_true rfl⟩ ⟨Nat.le_of_ble_eq_true rfl, Nat.le_of_ble_eq_true rfl⟩ (Nat.le_of_ble_eq_true rfl) dX1_isAllThere_55 (fun r_5 hp => ?_)
      subst hp
      refine g_topi (v := (nI (lst (FP.dadd x y)))) (rfl) ?_
      refine lv_dload hx hb dX1_isAllThere_58 (lv_at hl 0 rfl) ?_
      refine gcS1_iP hCF hwm hl.1 (m_lastOf l z H0 (lost x y) h.2.2.2.2.num ) (lw_S q2212 q2213 q65 q2214) yd_X1_lastOf ⟨Nat.le_of_ble_eq_true rfl, Nat.le_of_ble_eq_true rfl⟩ ⟨Nat.le_of_ble_eq_true rfl, Nat.le_of_ble_eq_true rfl⟩ (Nat.le_of_ble_eq_true rfl) dX1_isAllThere_60 (fun r_6 hp => ?_)
      subst hp
      refine g_topi (v := (nI (lst (lost x y)))) (rfl) ?_
      refine gcS2_iP hCF hwm hl.1 (m_minI l z H0 (nI (lst (FP.dadd x y))) (nI (lst (lost x y)))  ) (lw_S q2215 q284 q72 q285) yd_J12_min ⟨Nat.le_of_ble_eq_true rfl, Nat.le_of_ble_eq_true rfl⟩ ⟨Nat.le_of_ble_eq_true rfl, Nat.le_of_ble_eq_true rfl⟩ (Nat.le_of_ble_eq_true rfl) dX1_isAllThere_63 (fun r_7 hp => ?_)
      subst hp
      refine g_topi (v := (nI (min (lst (FP.dadd x y)) (lst (lost x y))))) (nI_min (by have := lst_b h.2.1.1; omega) (by have := lst_b h.2.2.2.2; omega)) ?_
      refine gcS2_iP hCF hwm hl.1 (m_minI l z H0 (nI (min (lst x) (lst y))) (nI (min (lst (FP.dadd x y)) (lst (lost x y))))  ) (lw_S q2215 q284 q72 q285) yd_J12_min ⟨Nat.le_of_ble_eq_true rfl, Nat.le_of_ble_eq_true rfl⟩ ⟨Nat.le_of_ble_eq_true rfl, Nat.le_of_ble_eq_true rfl⟩ (Nat.le_of_ble_eq_true rfl) dX1_isAllThere_66 (fun r_8 hp => ?_)
      subst hp
      refine g_topi (v := (nI (allF x y))) (nI_min (by have := lst_b h.1.1; have := lst_b h.1.2; omega) (by have := lst_b h.2.1.1; have := lst_b h.2.2.2.2; omega)) ?_
      refine lv_istore hx hb dX1_isAllThere_69 hl (by decide) rfl (fun ls hl => ?_)
      have hl : lv_has ls 13 [(8, .int (nI (allF x y))), (6, .double (lost x y)), (4, .double (FP.dadd x y)), (0, .double x), (2, .double y)] := hl
      refine lv_dload_n hx hb dX1_isAllThere_71 rfl (lv_at hl 3 rfl) ?_
      refine gcS1_iP hCF hwm hl.1 (m_exponentOf l z H0 x h.1.1.num ) (lw_S q380 q381 q65 q382) yd_X1_exponentOf ⟨Nat.le_of_ble_eq_true rfl, Nat.le_of_ble_eq_true rfl⟩ ⟨Nat.le_of_ble_eq_true rfl, Nat.le_of_ble_eq_true rfl⟩ (Nat.le_of_ble_eq_true rfl) dX1_isAllThere_72 (fun r_9 hp => ?_)
      subst hp
      refine lv_dload_n hx hb dX1_isAllThere_75 rfl (lv_at hl 4 rfl) ?_
      refine gcS1_iP hCF hwm hl.1 (m_exponentOf l z H0 y h.1.2.num ) (lw_S q380 q381 q65 q382) yd_X1_exponentOf ⟨Nat.le_of_ble_eq_true rfl, Nat.le_of_ble_eq_true rfl⟩ ⟨Nat.le_of_ble_eq_true rfl, Nat.le_of_ble_eq_true rfl⟩ (Nat.le_of_ble_eq_true rfl) dX1_isAllThere_76 (fun r_10 hp => ?_)
      subst hp
      refine gcS2_iP hCF hwm hl.1 (m_maxI l z H0 (nI (dE x)) (nI (dE y))  ) (lw_S q427 q267 q72 q268) yd_J12_max ⟨Nat.le_of_ble_eq_true rfl, Nat.le_of_ble_eq_true rfl⟩ ⟨Nat.le_of_ble_eq_true rfl, Nat.le_of_ble_eq_true rfl⟩ (Nat.le_of_ble_eq_true rfl) dX1_isAllThere_79 (fun r_11 hp => ?_)
      subst hp
      refine g_topi (v := (nI (max (dE x) (dE y)))) (nI_max (by have := dE_lt h.1.1; omega) (by have := dE_lt h.1.2; omega)) ?_
      refine lv_dload hx hb dX1_isAllThere_82 (lv_at hl 2 rfl) ?_
      refine gcS1_iP hCF hwm hl.1 (m_exponentOf l z H0 (FP.dadd x y) h.2.1.1.num ) (lw_S q380 q381 q65 q382) yd_X1_exponentOf ⟨Nat.le_of_ble_eq_true rfl, Nat.le_of_ble_eq_true rfl⟩ ⟨Nat.le_of_ble_eq_true rfl, Nat.le_of_ble_eq_true rfl⟩ (Nat.le_of_ble_eq_true rfl) dX1_isAllThere_84 (fun r_12 hp => ?_)
      subst hp
      refine lv_dload hx hb dX1_isAllThere_87 (lv_at hl 1 rfl) ?_
      refine gcS1_iP hCF hwm hl.1 (m_exponentOf l z H0 (lost x y) h.2.2.2.2.num ) (lw_S q380 q381 q65 q382) yd_X1_exponentOf ⟨Nat.le_of_ble_eq_true rfl, Nat.le_of_ble_eq_true rfl⟩ ⟨Nat.le_of_ble_eq_true rfl, Nat.le_of_ble_eq_true rfl⟩ (Nat.le_of_ble_eq_true rfl) dX1_isAllThere_89 (fun r_13 hp => ?_)
      subst hp
      refine gcS2_iP hCF hwm hl.1 (m_maxI l z H0 (nI (dE (FP.dadd x y))) (nI (dE (lost x y)))  ) (lw_S q427 q267 q72 q268) yd_J12_max ⟨Nat.le_of_ble_eq_true rfl, Nat.le_of_ble_eq_true rfl⟩ ⟨Nat.le_of_ble_eq_true rfl, Nat.le_of_ble_eq_true rfl⟩ (Nat.le_of_ble_eq_true rfl) dX1_isAllThere_92 (fun r_14 hp => ?_)
      subst hp
      refine g_topi (v := (nI (max (dE (FP.dadd x y)) (dE (lost x y))))) (nI_max (by have := dE_lt h.2.1.1; omega) (by have := dE_lt h.2.2.2.2; omega)) ?_
      refine gcS2_iP hCF hwm hl.1 (m_maxI l z H0 (nI (max (dE x) (dE y))) (nI (max (dE (FP.dadd x y)) (dE (lost x y))))  ) (lw_S q427 q267 q72 q268) yd_J12_max ⟨Nat.le_of_ble_eq_true rfl, Nat.le_of_ble_eq_true rfl⟩ ⟨Nat.le_of_ble_eq_true rfl, Nat.le_of_ble_eq_true rfl⟩ (Nat.le_of_ble_eq_true rfl) dX1_isAllThere_95 (fun r_15 hp => ?_)
      subst hp
      refine g_topi (v := (nI (allT x y))) (nI_max (by have := dE_lt h.1.1; have := dE_lt h.1.2; omega) (by have := dE_lt h.2.1.1; have := dE_lt h.2.2.2.2; omega)) ?_
      refine lv_istore hx hb dX1_isAllThere_98 hl (by decide) rfl (fun ls hl => ?_)
      have hl : lv_has ls 13 [(9, .int (nI (allT x y))), (8, .int (nI (allF x y))), (6, .double (lost x y)), (4, .double (FP.dadd x y)), (0, .double x), (2, .double y)] := hl
      refine lv_lconst (v := 0) hx hb dX1_isAllThere_100 (by decide) ?_
      refine g_topl (v := (lI (rst x y (allF x y)))) (by rw [rst_F he]; rfl) ?_
      refine lv_lstore hx hb dX1_isAllThere_101 hl (by decide) rfl (fun ls hl => ?_)
      have hl : lv_has ls 13 [(10, .long (lI (rst x y (allF x y)))), (9, .int (nI (allT x y))), (8, .int (nI (allF x y))), (6, .double (lost x y)), (4, .double (FP.dadd x y)), (0, .double x), (2, .double y)] := hl
      refine lv_iload hx hb dX1_isAllThere_103 (lv_at hl 2 rfl) ?_
      refine lv_istore hx hb dX1_isAllThere_105 hl (by decide) rfl (fun ls hl => ?_)
      have hl : lv_has ls 13 [(12, .int (nI (allF x y))), (10, .long (lI (rst x y (allF x y)))), (9, .int (nI (allT x y))), (8, .int (nI (allF x y))), (6, .double (lost x y)), (4, .double (FP.dadd x y)), (0, .double x), (2, .double y)] := hl
      have loop : ∀ (n_ : Nat) (t : Nat), (t ≤ 2200) → (2300 - t) < n_ → ∀ (ls : Array Slot), lv_has ls 13 [(12, .int (nI t)), (10, .long (lI (rst x y t))), (9, .int (nI (allT x y))), (8, .int (nI (allF x y))), (6, .double (lost x y)), (4, .double (FP.dadd x y)), (0, .double x), (2, .double y)] → W p l e { frames := 7, cells := 0, slots := 0, locals := 153 } s m [.double x, .double y].toArray below meth c H0 [] 0 0 (MQ below (gPi H0 (fun r => r = gb true)) [.double x, .double y].toArray s 0 0 (gno)) (F0 m 107 ls []) := by
        intro n_
        induction n_ with
        | zero => intro t ht hm_; exact absurd hm_ (Nat.not_lt_zero _)
        | succ n_ ih_loop =>
          intro t ht hm_ ls hl
          refine lv_iload hx hb dX1_isAllThere_107 (lv_at hl 0 rfl) ?_
          refine lv_iload hx hb dX1_isAllThere_109 (lv_at hl 2 rfl) ?_
          refine lv_bipush (v := 52) hx hb dX1_isAllThere_111 (by decide) ?_
          refine lv_iadd hx hb dX1_isAllThere_113 ?_
          refine g_topi (v := (nI (allT x y + 52))) ?_ ?_
          · skip
            rw [nI_iI, show (52 : Int32) = iI 52 from by decide, iI_add]
            rfl
          refine lv_icmp_gt (tgt := 177) hx hb dX1_isAllThere_114 (by decide) (fun c_114 => ?_) (fun c_114 => ?_)
          · skip
            have htT : allT x y + 52 < t := by
              have := allT_b h
              exact (nI_ltI (by omega) (by omega)).mp c_114
            refine lv_lload hx hb dX1_isAllThere_177 (lv_at hl 1 rfl) ?_
            refine lv_lconst (v := 0) hx hb dX1_isAllThere_179 (by decide) ?_
            refine W.lcmp hx hb dX1_isAllThere_180 ?_
            refine lv_if_ne (tgt := 188) hx hb dX1_isAllThere_181 (by decide) (fun c_181 => absurd (by rw [rst_top h htT]; decide) c_181) (fun c_181 => ?_)
            refine lv_iconst (v := 1) hx hb dX1_isAllThere_184 (by decide) ?_
            refine lv_goto (tgt := 189) hx hb dX1_isAllThere_185 (by decide) ?_
            refine g_zretP hx hb hr hlocks (rfl) ?_ dX1_isAllThere_189
            rfl
          · skip
            have htT : t ≤ allT x y + 52 := by
              have := allT_b h
              exact Nat.not_lt.mp (fun q => c_114 ((nI_ltI (by omega) (by omega)).mpr q))
            have hTb := allT_b h
            refine lv_lload hx hb dX1_isAllThere_117 (lv_at hl 1 rfl) ?_
            refine lv_dload hx hb dX1_isAllThere_119 (lv_at hl 5 rfl) ?_
            refine lv_iload hx hb dX1_isAllThere_121 (lv_at hl 0 rfl) ?_
            refine gcS2_lP hCF hwm hl.1 (m_pieceOf l z H0 (FP.dadd x y) t h.2.1.1 (by omega) ) (lw_S q2216 q2217 q65 q2218) yd_X1_pieceOf ⟨Nat.le_of_ble_eq_true rfl, Nat.le_of_ble_eq_true rfl⟩ ⟨Nat.le_of_ble_eq_true rfl, Nat.le_of_ble_eq_true rfl⟩ (Nat.le_of_ble_eq_true rfl) dX1_isAllThere_123 (fun r_16 hp => ?_)
            subst hp
            refine lv_dload hx hb dX1_isAllThere_126 (lv_at hl 4 rfl) ?_
            refine lv_iload hx hb dX1_isAllThere_128 (lv_at hl 0 rfl) ?_
            refine gcS2_lP hCF hwm hl.1 (m_pieceOf l z H0 (lost x y) t h.2.2.2.2 (by omega) ) (lw_S q2216 q2217 q65 q2218) yd_X1_pieceOf ⟨Nat.le_of_ble_eq_true rfl, Nat.le_of_ble_eq_true rfl⟩ ⟨Nat.le_of_ble_eq_true rfl, Nat.le_of_ble_eq_true rfl⟩ (Nat.le_of_ble_eq_true rfl) dX1_isAllThere_130 (fun r_17 hp => ?_)
            subst hp
            refine lv_ladd hx hb dX1_isAllThere_133 ?_
            refine lv_dload_n hx hb dX1_isAllThere_134 rfl (lv_at hl 6 rfl) ?_
            refine lv_iload hx hb dX1_isAllThere_135 (lv_at hl 0 rfl) ?_
            refine gcS2_lP hCF hwm hl.1 (m_pieceOf l z H0 x t h.1.1 (by omega) ) (lw_S q2216 q2217 q65 q2218) yd_X1_pieceOf ⟨Nat.le_of_ble_eq_true rfl, Nat.le_of_ble_eq_true rfl⟩ ⟨Nat.le_of_ble_eq_true rfl, Nat.le_of_ble_eq_true rfl⟩ (Nat.le_of_ble_eq_true rfl) dX1_isAllThere_137 (fun r_18 hp => ?_)
            subst hp
            refine lv_lsub hx hb dX1_isAllThere_140 ?_
            refine lv_dload_n hx hb dX1_isAllThere_141 rfl (lv_at hl 7 rfl) ?_
            refine lv_iload hx hb dX1_isAllThere_142 (lv_at hl 0 rfl) ?_
            refine gcS2_lP hCF hwm hl.1 (m_pieceOf l z H0 y t h.1.2 (by omega) ) (lw_S q2216 q2217 q65 q2218) yd_X1_pieceOf ⟨Nat.le_of_ble_eq_true rfl, Nat.le_of_ble_eq_true rfl⟩ ⟨Nat.le_of_ble_eq_true rfl, Nat.le_of_ble_eq_true rfl⟩ (Nat.le_of_ble_eq_true rfl) dX1_isAllThere_144 (fun r_19 hp => ?_)
            subst hp
            refine lv_lsub hx hb dX1_isAllThere_147 ?_
            refine lv_ladd hx hb dX1_isAllThere_148 ?_
            refine g_topl (v := (lI (rst x y (t + 32) * 4294967296))) ?_ ?_
            · skip
              rw [lI_add, lI_sub, lI_sub, lI_add, ← rst_step]
              rfl
            refine lv_lstore hx hb dX1_isAllThere_149 hl (by decide) rfl (fun ls hl => ?_)
            have hl : lv_has ls 13 [(10, .long (lI (rst x y (t + 32) * 4294967296))), (12, .int (nI t)), (9, .int (nI (allT x y))), (8, .int (nI (allF x y))), (6, .double (lost x y)), (4, .double (FP.dadd x y)), (0, .double x), (2, .double y)] := hl
            refine lv_lload hx hb dX1_isAllThere_151 (lv_at hl 0 rfl) ?_
            refine lv_ldc2 (v := 4294967295) hx hb hown (hts _ q1909) dX1_isAllThere_153 ?_
            refine lv_land hx hb dX1_isAllThere_156 ?_
            refine lv_lconst (v := 0) hx hb dX1_isAllThere_157 (by decide) ?_
            refine W.lcmp hx hb dX1_isAllThere_158 ?_
            refine lv_if_eq (tgt := 164) hx hb dX1_isAllThere_159 (by decide) (fun c_159 => ?_) (fun c_159 => absurd (by rw [lI_low]; rfl) c_159)
            refine lv_lload hx hb dX1_isAllThere_164 (lv_at hl 0 rfl) ?_
            refine lv_bipush (v := 32) hx hb dX1_isAllThere_166 (by decide) ?_
            refine lv_lshr hx hb dX1_isAllThere_168 rfl ?_
            refine g_topl (v := (lI (rst x y (t + 32)))) ?_ ?_
            · skip
              have := rst_b he (t + 32)
              exact lI_sr32 (by omega) (by omega)
            refine lv_lstore hx hb dX1_isAllThere_169 hl (by decide) rfl (fun ls hl => ?_)
            have hl : lv_has ls 13 [(10, .long (lI (rst x y (t + 32)))), (12, .int (nI t)), (9, .int (nI (allT x y))), (8, .int (nI (allF x y))), (6, .double (lost x y)), (4, .double (FP.dadd x y)), (0, .double x), (2, .double y)] := hl
            refine lv_iinc (k := 1) (v := (nI (t + 32))) hx hb dX1_isAllThere_171 hl rfl (by rw [show Int32.ofInt 32 = iI 32 from rfl, nI_iI, iI_add]; rfl) (by decide) rfl (fun ls hl => ?_)
            have hl : lv_has ls 13 [(12, .int (nI (t + 32))), (10, .long (lI (rst x y (t + 32)))), (9, .int (nI (allT x y))), (8, .int (nI (allF x y))), (6, .double (lost x y)), (4, .double (FP.dadd x y)), (0, .double x), (2, .double y)] := hl
            refine lv_goto (tgt := 107) hx hb dX1_isAllThere_174 (by decide) ?_
            exact ih_loop (t + 32) (by omega) (by omega) ls (lv_sub hl [0, 1, 2, 3, 4, 5, 6, 7] rfl)
      exact loop _ (allF x y) (by have := allF_b h; omega) (Nat.lt_succ_self _) ls (lv_sub hl [0, 1, 2, 3, 4, 5, 6, 7] rfl)
    · skip
      refine lv_dload hx hb dX1_isAllThere_33 (lv_at hl 0 rfl) ?_
      refine lv_dload_n hx hb dX1_isAllThere_35 rfl (lv_at hl 2 rfl) ?_
      refine lv_dcmp hx hb dX1_isAllThere_36 ?_
      refine g_topi (v := (cK (lost x y) x)) (cK_of h.2.2.2.2.num h.1.1.num) ?_
      refine lv_if_ne (tgt := 42) hx hb dX1_isAllThere_37 (by decide) (fun c_37 => ?_) (fun c_37 => ?_)
      · skip
        refine lv_dload_n hx hb dX1_isAllThere_42 rfl (lv_at hl 2 rfl) ?_
        refine gcS1_iP hCF hwm hl.1 (m_lastOf l z H0 x h.1.1.num ) (lw_S q2212 q2213 q65 q2214) yd_X1_lastOf ⟨Nat.le_of_ble_eq_true rfl, Nat.le_of_ble_eq_true rfl⟩ ⟨Nat.le_of_ble_eq_true rfl, Nat.le_of_ble_eq_true rfl⟩ (Nat.le_of_ble_eq_true rfl) dX1_isAllThere_43 (fun r_20 hp => ?_)
        subst hp
        refine g_topi (v := (nI (lst x))) (rfl) ?_
        refine lv_dload_n hx hb dX1_isAllThere_46 rfl (lv_at hl 3 rfl) ?_
        refine gcS1_iP hCF hwm hl.1 (m_lastOf l z H0 y h.1.2.num ) (lw_S q2212 q2213 q65 q2214) yd_X1_lastOf ⟨Nat.le_of_ble_eq_true rfl, Nat.le_of_ble_eq_true rfl⟩ ⟨Nat.le_of_ble_eq_true rfl, Nat.le_of_ble_eq_true rfl⟩ (Nat.le_of_ble_eq_true rfl) dX1_isAllThere_47 (fun r_21 hp => ?_)
        subst hp
        refine g_topi (v := (nI (lst y))) (rfl) ?_
        refine gcS2_iP hCF hwm hl.1 (m_minI l z H0 (nI (lst x)) (nI (lst y))  ) (lw_S q2215 q284 q72 q285) yd_J12_min ⟨Nat.le_of_ble_eq_true rfl, Nat.le_of_ble_eq_true rfl⟩ ⟨Nat.le_of_ble_eq_true rfl, Nat.le_of_ble_eq_true rfl⟩ (Nat.le_of_ble_eq_true rfl) dX1_isAllThere_50 (fun r_22 hp => ?_)
        subst hp
        refine g_topi (v := (nI (min (lst x) (lst y)))) (nI_min (by have := lst_b h.1.1; omega) (by have := lst_b h.1.2; omega)) ?_
        refine lv_dload hx hb dX1_isAllThere_53 (lv_at hl 1 rfl) ?_
        refine gcS1_iP hCF hwm hl.1 (m_lastOf l z H0 (FP.dadd x y) h.2.1.1.num ) (lw_S q2212 q2213 q65 q2214) yd_X1_lastOf ⟨Nat.le_of_ble_eq_true rfl, Nat.le_of_ble_eq_true rfl⟩ ⟨Nat.le_of_ble_eq_true rfl, Nat.le_of_ble_eq_true rfl⟩ (Nat.le_of_ble_eq_true rfl) dX1_isAllThere_55 (fun r_23 hp => ?_)
        subst hp
        refine g_topi (v := (nI (lst (FP.dadd x y)))) (rfl) ?_
        refine lv_dload hx hb dX1_isAllThere_58 (lv_at hl 0 rfl) ?_
        refine gcS1_iP hCF hwm hl.1 (m_lastOf l z H0 (lost x y) h.2.2.2.2.num ) (lw_S q2212 q2213 q65 q2214) yd_X1_lastOf ⟨Nat.le_of_ble_eq_true rfl, Nat.le_of_ble_eq_true rfl⟩ ⟨Nat.le_of_ble_eq_true rfl, Nat.le_of_ble_eq_true rfl⟩ (Nat.le_of_ble_eq_true rfl) dX1_isAllThere_60 (fun r_24 hp => ?_)
        subst hp
        refine g_topi (v := (nI (lst (lost x y)))) (rfl) ?_
        refine gcS2_iP hCF hwm hl.1 (m_minI l z H0 (nI (lst (FP.dadd x y))) (nI (lst (lost x y)))  ) (lw_S q2215 q284 q72 q285) yd_J12_min ⟨Nat.le_of_ble_eq_true rfl, Nat.le_of_ble_eq_true rfl⟩ ⟨Nat.le_of_ble_eq_true rfl, Nat.le_of_ble_eq_true rfl⟩ (Nat.le_of_ble_eq_true rfl) dX1_isAllThere_63 (fun r_25 hp => ?_)
        subst hp
        refine g_topi (v := (nI (min (lst (FP.dadd x y)) (lst (lost x y))))) (nI_min (by have := lst_b h.2.1.1; omega) (by have := lst_b h.2.2.2.2; omega)) ?_
        refine gcS2_iP hCF hwm hl.1 (m_minI l z H0 (nI (min (lst x) (lst y))) (nI (min (lst (FP.dadd x y)) (lst (lost x y))))  ) (lw_S q2215 q284 q72 q285) yd_J12_min ⟨Nat.le_of_ble_eq_true rfl, Nat.le_of_ble_eq_true rfl⟩ ⟨Nat.le_of_ble_eq_true rfl, Nat.le_of_ble_eq_true rfl⟩ (Nat.le_of_ble_eq_true rfl) dX1_isAllThere_66 (fun r_26 hp => ?_)
        subst hp
        refine g_topi (v := (nI (allF x y))) (nI_min (by have := lst_b h.1.1; have := lst_b h.1.2; omega) (by have := lst_b h.2.1.1; have := lst_b h.2.2.2.2; omega)) ?_
        refine lv_istore hx hb dX1_isAllThere_69 hl (by decide) rfl (fun ls hl => ?_)
        have hl : lv_has ls 13 [(8, .int (nI (allF x y))), (6, .double (lost x y)), (4, .double (FP.dadd x y)), (0, .double x), (2, .double y)] := hl
        refine lv_dload_n hx hb dX1_isAllThere_71 rfl (lv_at hl 3 rfl) ?_
        refine gcS1_iP hCF hwm hl.1 (m_exponentOf l z H0 x h.1.1.num ) (lw_S q380 q381 q65 q382) yd_X1_exponentOf ⟨Nat.le_of_ble_eq_true rfl, Nat.le_of_ble_eq_true rfl⟩ ⟨Nat.le_of_ble_eq_true rfl, Nat.le_of_ble_eq_true rfl⟩ (Nat.le_of_ble_eq_true rfl) dX1_isAllThere_72 (fun r_27 hp => ?_)
        subst hp
        refine lv_dload_n hx hb dX1_isAllThere_75 rfl (lv_at hl 4 rfl) ?_
        refine gcS1_iP hCF hwm hl.1 (m_exponentOf l z H0 y h.1.2.num ) (lw_S q380 q381 q65 q382) yd_X1_exponentOf ⟨Nat.le_of_ble_eq_true rfl, Nat.le_of_ble_eq_true rfl⟩ ⟨Nat.le_of_ble_eq_true rfl, Nat.le_of_ble_eq_true rfl⟩ (Nat.le_of_ble_eq_true rfl) dX1_isAllThere_76 (fun r_28 hp => ?_)
        subst hp
        refine gcS2_iP hCF hwm hl.1 (m_maxI l z H0 (nI (dE x)) (nI (dE y))  ) (lw_S q427 q267 q72 q268) yd_J12_max ⟨Nat.le_of_ble_eq_true rfl, Nat.le_of_ble_eq_true rfl⟩ ⟨Nat.le_of_ble_eq_true rfl, Nat.le_of_ble_eq_true rfl⟩ (Nat.le_of_ble_eq_true rfl) dX1_isAllThere_79 (fun r_29 hp => ?_)
        subst hp
        refine g_topi (v := (nI (max (dE x) (dE y)))) (nI_max (by have := dE_lt h.1.1; omega) (by have := dE_lt h.1.2; omega)) ?_
        refine lv_dload hx hb dX1_isAllThere_82 (lv_at hl 2 rfl) ?_
        refine gcS1_iP hCF hwm hl.1 (m_exponentOf l z H0 (FP.dadd x y) h.2.1.1.num ) (lw_S q380 q381 q65 q382) yd_X1_exponentOf ⟨Nat.le_of_ble_eq_true rfl, Nat.le_of_ble_eq_true rfl⟩ ⟨Nat.le_of_ble_eq_true rfl, Nat.le_of_ble_eq_true rfl⟩ (Nat.le_of_ble_eq_true rfl) dX1_isAllThere_84 (fun r_30 hp => ?_)
        subst hp
        refine lv_dload hx hb dX1_isAllThere_87 (lv_at hl 1 rfl) ?_
        refine gcS1_iP hCF hwm hl.1 (m_exponentOf l z H0 (lost x y) h.2.2.2.2.num ) (lw_S q380 q381 q65 q382) yd_X1_exponentOf ⟨Nat.le_of_ble_eq_true rfl, Nat.le_of_ble_eq_true rfl⟩ ⟨Nat.le_of_ble_eq_true rfl, Nat.le_of_ble_eq_true rfl⟩ (Nat.le_of_ble_eq_true rfl) dX1_isAllThere_89 (fun r_31 hp => ?_)
        subst hp
        refine gcS2_iP hCF hwm hl.1 (m_maxI l z H0 (nI (dE (FP.dadd x y))) (nI (dE (lost x y)))  ) (lw_S q427 q267 q72 q268) yd_J12_max ⟨Nat.le_of_ble_eq_true rfl, Nat.le_of_ble_eq_true rfl⟩ ⟨Nat.le_of_ble_eq_true rfl, Nat.le_of_ble_eq_true rfl⟩ (Nat.le_of_ble_eq_true rfl) dX1_isAllThere_92 (fun r_32 hp => ?_)
        subst hp
        refine g_topi (v := (nI (max (dE (FP.dadd x y)) (dE (lost x y))))) (nI_max (by have := dE_lt h.2.1.1; omega) (by have := dE_lt h.2.2.2.2; omega)) ?_
        refine gcS2_iP hCF hwm hl.1 (m_maxI l z H0 (nI (max (dE x) (dE y))) (nI (max (dE (FP.dadd x y)) (dE (lost x y))))  ) (lw_S q427 q267 q72 q268) yd_J12_max ⟨Nat.le_of_ble_eq_true rfl, Nat.le_of_ble_eq_true rfl⟩ ⟨Nat.le_of_ble_eq_true rfl, Nat.le_of_ble_eq_true rfl⟩ (Nat.le_of_ble_eq_true rfl) dX1_isAllThere_95 (fun r_33 hp => ?_)
        subst hp
        refine g_topi (v := (nI (allT x y))) (nI_max (by have := dE_lt h.1.1; have := dE_lt h.1.2; omega) (by have := dE_lt h.2.1.1; have := dE_lt h.2.2.2.2; omega)) ?_
        refine lv_istore hx hb dX1_isAllThere_98 hl (by decide) rfl (fun ls hl => ?_)
        have hl : lv_has ls 13 [(9, .int (nI (allT x y))), (8, .int (nI (allF x y))), (6, .double (lost x y)), (4, .double (FP.dadd x y)), (0, .double x), (2, .double y)] := hl
        refine lv_lconst (v := 0) hx hb dX1_isAllThere_100 (by decide) ?_
        refine g_topl (v := (lI (rst x y (allF x y)))) (by rw [rst_F he]; rfl) ?_
        refine lv_lstore hx hb dX1_isAllThere_101 hl (by decide) rfl (fun ls hl => ?_)
        have hl : lv_has ls 13 [(10, .long (lI (rst x y (allF x y)))), (9, .int (nI (allT x y))), (8, .int (nI (allF x y))), (6, .double (lost x y)), (4, .double (FP.dadd x y)), (0, .double x), (2, .double y)] := hl
        refine lv_iload hx hb dX1_isAllThere_103 (lv_at hl 2 rfl) ?_
        refine lv_istore hx hb dX1_isAllThere_105 hl (by decide) rfl (fun ls hl => ?_)
        have hl : lv_has ls 13 [(12, .int (nI (allF x y))), (10, .long (lI (rst x y (allF x y)))), (9, .int (nI (allT x y))), (8, .int (nI (allF x y))), (6, .double (lost x y)), (4, .double (FP.dadd x y)), (0, .double x), (2, .double y)] := hl
        have loop : ∀ (n_ : Nat) (t : Nat), (t ≤ 2200) → (2300 - t) < n_ → ∀ (ls : Array Slot), lv_has ls 13 [(12, .int (nI t)), (10, .long (lI (rst x y t))), (9, .int (nI (allT x y))), (8, .int (nI (allF x y))), (6, .double (lost x y)), (4, .double (FP.dadd x y)), (0, .double x), (2, .double y)] → W p l e { frames := 7, cells := 0, slots := 0, locals := 153 } s m [.double x, .double y].toArray below meth c H0 [] 0 0 (MQ below (gPi H0 (fun r => r = gb true)) [.double x, .double y].toArray s 0 0 (gno)) (F0 m 107 ls []) := by
          intro n_
          induction n_ with
          | zero => intro t ht hm_; exact absurd hm_ (Nat.not_lt_zero _)
          | succ n_ ih_loop =>
            intro t ht hm_ ls hl
            refine lv_iload hx hb dX1_isAllThere_107 (lv_at hl 0 rfl) ?_
            refine lv_iload hx hb dX1_isAllThere_109 (lv_at hl 2 rfl) ?_
            refine lv_bipush (v := 52) hx hb dX1_isAllThere_111 (by decide) ?_
            refine lv_iadd hx hb dX1_isAllThere_113 ?_
            refine g_topi (v := (nI (allT x y + 52))) ?_ ?_
            · skip
              rw [nI_iI, show (52 : Int32) = iI 52 from by decide, iI_add]
              rfl
            refine lv_icmp_gt (tgt := 177) hx hb dX1_isAllThere_114 (by decide) (fun c_114 => ?_) (fun c_114 => ?_)
            · skip
              have htT : allT x y + 52 < t := by
                have := allT_b h
                exact (nI_ltI (by omega) (by omega)).mp c_114
              refine lv_lload hx hb dX1_isAllThere_177 (lv_at hl 1 rfl) ?_
              refine lv_lconst (v := 0) hx hb dX1_isAllThere_179 (by decide) ?_
              refine W.lcmp hx hb dX1_isAllThere_180 ?_
              refine lv_if_ne (tgt := 188) hx hb dX1_isAllThere_181 (by decide) (fun c_181 => absurd (by rw [rst_top h htT]; decide) c_181) (fun c_181 => ?_)
              refine lv_iconst (v := 1) hx hb dX1_isAllThere_184 (by decide) ?_
              refine lv_goto (tgt := 189) hx hb dX1_isAllThere_185 (by decide) ?_
              refine g_zretP hx hb hr hlocks (rfl) ?_ dX1_isAllThere_189
              rfl
            · skip
              have htT : t ≤ allT x y + 52 := by
                have := allT_b h
                exact Nat.not_lt.mp (fun q => c_114 ((nI_ltI (by omega) (by omega)).mpr q))
              have hTb := allT_b h
              refine lv_lload hx hb dX1_isAllThere_117 (lv_at hl 1 rfl) ?_
              refine lv_dload hx hb dX1_isAllThere_119 (lv_at hl 5 rfl) ?_
              refine lv_iload hx hb dX1_isAllThere_121 (lv_at hl 0 rfl) ?_
              refine gcS2_lP hCF hwm hl.1 (m_pieceOf l z H0 (FP.dadd x y) t h.2.1.1 (by omega) ) (lw_S q2216 q2217 q65 q2218) yd_X1_pieceOf ⟨Nat.le_of_ble_eq_true rfl, Nat.le_of_ble_eq_true rfl⟩ ⟨Nat.le_of_ble_eq_true rfl, Nat.le_of_ble_eq_true rfl⟩ (Nat.le_of_ble_eq_true rfl) dX1_isAllThere_123 (fun r_34 hp => ?_)
              subst hp
              refine lv_dload hx hb dX1_isAllThere_126 (lv_at hl 4 rfl) ?_
              refine lv_iload hx hb dX1_isAllThere_128 (lv_at hl 0 rfl) ?_
              refine gcS2_lP hCF hwm hl.1 (m_pieceOf l z H0 (lost x y) t h.2.2.2.2 (by omega) ) (lw_S q2216 q2217 q65 q2218) yd_X1_pieceOf ⟨Nat.le_of_ble_eq_true rfl, Nat.le_of_ble_eq_true rfl⟩ ⟨Nat.le_of_ble_eq_true rfl, Nat.le_of_ble_eq_true rfl⟩ (Nat.le_of_ble_eq_true rfl) dX1_isAllThere_130 (fun r_35 hp => ?_)
              subst hp
              refine lv_ladd hx hb dX1_isAllThere_133 ?_
              refine lv_dload_n hx hb dX1_isAllThere_134 rfl (lv_at hl 6 rfl) ?_
              refine lv_iload hx hb dX1_isAllThere_135 (lv_at hl 0 rfl) ?_
              refine gcS2_lP hCF hwm hl.1 (m_pieceOf l z H0 x t h.1.1 (by omega) ) (lw_S q2216 q2217 q65 q2218) yd_X1_pieceOf ⟨Nat.le_of_ble_eq_true rfl, Nat.le_of_ble_eq_true rfl⟩ ⟨Nat.le_of_ble_eq_true rfl, Nat.le_of_ble_eq_true rfl⟩ (Nat.le_of_ble_eq_true rfl) dX1_isAllThere_137 (fun r_36 hp => ?_)
              subst hp
              refine lv_lsub hx hb dX1_isAllThere_140 ?_
              refine lv_dload_n hx hb dX1_isAllThere_141 rfl (lv_at hl 7 rfl) ?_
              refine lv_iload hx hb dX1_isAllThere_142 (lv_at hl 0 rfl) ?_
              refine gcS2_lP hCF hwm hl.1 (m_pieceOf l z H0 y t h.1.2 (by omega) ) (lw_S q2216 q2217 q65 q2218) yd_X1_pieceOf ⟨Nat.le_of_ble_eq_true rfl, Nat.le_of_ble_eq_true rfl⟩ ⟨Nat.le_of_ble_eq_true rfl, Nat.le_of_ble_eq_true rfl⟩ (Nat.le_of_ble_eq_true rfl) dX1_isAllThere_144 (fun r_37 hp => ?_)
              subst hp
              refine lv_lsub hx hb dX1_isAllThere_147 ?_
              refine lv_ladd hx hb dX1_isAllThere_148 ?_
              refine g_topl (v := (lI (rst x y (t + 32) * 4294967296))) ?_ ?_
              · skip
                rw [lI_add, lI_sub, lI_sub, lI_add, ← rst_step]
                rfl
              refine lv_lstore hx hb dX1_isAllThere_149 hl (by decide) rfl (fun ls hl => ?_)
              have hl : lv_has ls 13 [(10, .long (lI (rst x y (t + 32) * 4294967296))), (12, .int (nI t)), (9, .int (nI (allT x y))), (8, .int (nI (allF x y))), (6, .double (lost x y)), (4, .double (FP.dadd x y)), (0, .double x), (2, .double y)] := hl
              refine lv_lload hx hb dX1_isAllThere_151 (lv_at hl 0 rfl) ?_
              refine lv_ldc2 (v := 4294967295) hx hb hown (hts _ q1909) dX1_isAllThere_153 ?_
              refine lv_land hx hb dX1_isAllThere_156 ?_
              refine lv_lconst (v := 0) hx hb dX1_isAllThere_157 (by decide) ?_
              refine W.lcmp hx hb dX1_isAllThere_158 ?_
              refine lv_if_eq (tgt := 164) hx hb dX1_isAllThere_159 (by decide) (fun c_159 => ?_) (fun c_159 => absurd (by rw [lI_low]; rfl) c_159)
              refine lv_lload hx hb dX1_isAllThere_164 (lv_at hl 0 rfl) ?_
              refine lv_bipush (v := 32) hx hb dX1_isAllThere_166 (by decide) ?_
              refine lv_lshr hx hb dX1_isAllThere_168 rfl ?_
              refine g_topl (v := (lI (rst x y (t + 32)))) ?_ ?_
              · skip
                have := rst_b he (t + 32)
                exact lI_sr32 (by omega) (by omega)
              refine lv_lstore hx hb dX1_isAllThere_169 hl (by decide) rfl (fun ls hl => ?_)
              have hl : lv_has ls 13 [(10, .long (lI (rst x y (t + 32)))), (12, .int (nI t)), (9, .int (nI (allT x y))), (8, .int (nI (allF x y))), (6, .double (lost x y)), (4, .double (FP.dadd x y)), (0, .double x), (2, .double y)] := hl
              refine lv_iinc (k := 1) (v := (nI (t + 32))) hx hb dX1_isAllThere_171 hl rfl (by rw [show Int32.ofInt 32 = iI 32 from rfl, nI_iI, iI_add]; rfl) (by decide) rfl (fun ls hl => ?_)
              have hl : lv_has ls 13 [(12, .int (nI (t + 32))), (10, .long (lI (rst x y (t + 32)))), (9, .int (nI (allT x y))), (8, .int (nI (allF x y))), (6, .double (lost x y)), (4, .double (FP.dadd x y)), (0, .double x), (2, .double y)] := hl
              refine lv_goto (tgt := 107) hx hb dX1_isAllThere_174 (by decide) ?_
              exact ih_loop (t + 32) (by omega) (by omega) ls (lv_sub hl [0, 1, 2, 3, 4, 5, 6, 7] rfl)
        exact loop _ (allF x y) (by have := allF_b h; omega) (Nat.lt_succ_self _) ls (lv_sub hl [0, 1, 2, 3, 4, 5, 6, 7] rfl)
      · skip
        refine lv_iconst (v := 1) hx hb dX1_isAllThere_40 (by decide) ?_
        refine g_zretP hx hb hr hlocks (rfl) ?_ dX1_isAllThere_41
        rfl
  · skip
    refine lv_dload hx hb dX1_isAllThere_19 (lv_at hl 0 rfl) ?_
    refine lv_dload_n hx hb dX1_isAllThere_21 rfl (lv_at hl 3 rfl) ?_
    refine lv_dcmp hx hb dX1_isAllThere_22 ?_
    refine g_topi (v := (cK (lost x y) y)) (cK_of h.2.2.2.2.num h.1.2.num) ?_
    refine lv_if_eq (tgt := 40) hx hb dX1_isAllThere_23 (by decide) (fun c_23 => ?_) (fun c_23 => ?_)
    · skip
      refine lv_iconst (v := 1) hx hb dX1_isAllThere_40 (by decide) ?_
      refine g_zretP hx hb hr hlocks (rfl) ?_ dX1_isAllThere_41
      rfl
    · skip
      refine lv_dload hx hb dX1_isAllThere_26 (lv_at hl 1 rfl) ?_
      refine lv_dload_n hx hb dX1_isAllThere_28 rfl (lv_at hl 3 rfl) ?_
      refine lv_dcmp hx hb dX1_isAllThere_29 ?_
      refine g_topi (v := (cK (FP.dadd x y) y)) (cK_of h.2.1.1.num h.1.2.num) ?_
      refine lv_if_ne (tgt := 42) hx hb dX1_isAllThere_30 (by decide) (fun c_30 => ?_) (fun c_30 => ?_)
      · skip
        refine lv_dload_n hx hb dX1_isAllThere_42 rfl (lv_at hl 2 rfl) ?_
        refine gcS1_iP hCF hwm hl.1 (m_lastOf l z H0 x h.1.1.num ) (lw_S q2212 q2213 q65 q2214) yd_X1_lastOf ⟨Nat.le_of_ble_eq_true rfl, Nat.le_of_ble_eq_true rfl⟩ ⟨Nat.le_of_ble_eq_true rfl, Nat.le_of_ble_eq_true rfl⟩ (Nat.le_of_ble_eq_true rfl) dX1_isAllThere_43 (fun r_38 hp => ?_)
        subst hp
        refine g_topi (v := (nI (lst x))) (rfl) ?_
        refine lv_dload_n hx hb dX1_isAllThere_46 rfl (lv_at hl 3 rfl) ?_
        refine gcS1_iP hCF hwm hl.1 (m_lastOf l z H0 y h.1.2.num ) (lw_S q2212 q2213 q65 q2214) yd_X1_lastOf ⟨Nat.le_of_ble_eq_true rfl, Nat.le_of_ble_eq_true rfl⟩ ⟨Nat.le_of_ble_eq_true rfl, Nat.le_of_ble_eq_true rfl⟩ (Nat.le_of_ble_eq_true rfl) dX1_isAllThere_47 (fun r_39 hp => ?_)
        subst hp
        refine g_topi (v := (nI (lst y))) (rfl) ?_
        refine gcS2_iP hCF hwm hl.1 (m_minI l z H0 (nI (lst x)) (nI (lst y))  ) (lw_S q2215 q284 q72 q285) yd_J12_min ⟨Nat.le_of_ble_eq_true rfl, Nat.le_of_ble_eq_true rfl⟩ ⟨Nat.le_of_ble_eq_true rfl, Nat.le_of_ble_eq_true rfl⟩ (Nat.le_of_ble_eq_true rfl) dX1_isAllThere_50 (fun r_40 hp => ?_)
        subst hp
        refine g_topi (v := (nI (min (lst x) (lst y)))) (nI_min (by have := lst_b h.1.1; omega) (by have := lst_b h.1.2; omega)) ?_
        refine lv_dload hx hb dX1_isAllThere_53 (lv_at hl 1 rfl) ?_
        refine gcS1_iP hCF hwm hl.1 (m_lastOf l z H0 (FP.dadd x y) h.2.1.1.num ) (lw_S q2212 q2213 q65 q2214) yd_X1_lastOf ⟨Nat.le_of_ble_eq_true rfl, Nat.le_of_ble_eq_true rfl⟩ ⟨Nat.le_of_ble_eq_true rfl, Nat.le_of_ble_eq_true rfl⟩ (Nat.le_of_ble_eq_true rfl) dX1_isAllThere_55 (fun r_41 hp => ?_)
        subst hp
        refine g_topi (v := (nI (lst (FP.dadd x y)))) (rfl) ?_
        refine lv_dload hx hb dX1_isAllThere_58 (lv_at hl 0 rfl) ?_
        refine gcS1_iP hCF hwm hl.1 (m_lastOf l z H0 (lost x y) h.2.2.2.2.num ) (lw_S q2212 q2213 q65 q2214) yd_X1_lastOf ⟨Nat.le_of_ble_eq_true rfl, Nat.le_of_ble_eq_true rfl⟩ ⟨Nat.le_of_ble_eq_true rfl, Nat.le_of_ble_eq_true rfl⟩ (Nat.le_of_ble_eq_true rfl) dX1_isAllThere_60 (fun r_42 hp => ?_)
        subst hp
        refine g_topi (v := (nI (lst (lost x y)))) (rfl) ?_
        refine gcS2_iP hCF hwm hl.1 (m_minI l z H0 (nI (lst (FP.dadd x y))) (nI (lst (lost x y)))  ) (lw_S q2215 q284 q72 q285) yd_J12_min ⟨Nat.le_of_ble_eq_true rfl, Nat.le_of_ble_eq_true rfl⟩ ⟨Nat.le_of_ble_eq_true rfl, Nat.le_of_ble_eq_true rfl⟩ (Nat.le_of_ble_eq_true rfl) dX1_isAllThere_63 (fun r_43 hp => ?_)
        subst hp
        refine g_topi (v := (nI (min (lst (FP.dadd x y)) (lst (lost x y))))) (nI_min (by have := lst_b h.2.1.1; omega) (by have := lst_b h.2.2.2.2; omega)) ?_
        refine gcS2_iP hCF hwm hl.1 (m_minI l z H0 (nI (min (lst x) (lst y))) (nI (min (lst (FP.dadd x y)) (lst (lost x y))))  ) (lw_S q2215 q284 q72 q285) yd_J12_min ⟨Nat.le_of_ble_eq_true rfl, Nat.le_of_ble_eq_true rfl⟩ ⟨Nat.le_of_ble_eq_true rfl, Nat.le_of_ble_eq_true rfl⟩ (Nat.le_of_ble_eq_true rfl) dX1_isAllThere_66 (fun r_44 hp => ?_)
        subst hp
        refine g_topi (v := (nI (allF x y))) (nI_min (by have := lst_b h.1.1; have := lst_b h.1.2; omega) (by have := lst_b h.2.1.1; have := lst_b h.2.2.2.2; omega)) ?_
        refine lv_istore hx hb dX1_isAllThere_69 hl (by decide) rfl (fun ls hl => ?_)
        have hl : lv_has ls 13 [(8, .int (nI (allF x y))), (6, .double (lost x y)), (4, .double (FP.dadd x y)), (0, .double x), (2, .double y)] := hl
        refine lv_dload_n hx hb dX1_isAllThere_71 rfl (lv_at hl 3 rfl) ?_
        refine gcS1_iP hCF hwm hl.1 (m_exponentOf l z H0 x h.1.1.num ) (lw_S q380 q381 q65 q382) yd_X1_exponentOf ⟨Nat.le_of_ble_eq_true rfl, Nat.le_of_ble_eq_true rfl⟩ ⟨Nat.le_of_ble_eq_true rfl, Nat.le_of_ble_eq_true rfl⟩ (Nat.le_of_ble_eq_true rfl) dX1_isAllThere_72 (fun r_45 hp => ?_)
        subst hp
        refine lv_dload_n hx hb dX1_isAllThere_75 rfl (lv_at hl 4 rfl) ?_
        refine gcS1_iP hCF hwm hl.1 (m_exponentOf l z H0 y h.1.2.num ) (lw_S q380 q381 q65 q382) yd_X1_exponentOf ⟨Nat.le_of_ble_eq_true rfl, Nat.le_of_ble_eq_true rfl⟩ ⟨Nat.le_of_ble_eq_true rfl, Nat.le_of_ble_eq_true rfl⟩ (Nat.le_of_ble_eq_true rfl) dX1_isAllThere_76 (fun r_46 hp => ?_)
        subst hp
        refine gcS2_iP hCF hwm hl.1 (m_maxI l z H0 (nI (dE x)) (nI (dE y))  ) (lw_S q427 q267 q72 q268) yd_J12_max ⟨Nat.le_of_ble_eq_true rfl, Nat.le_of_ble_eq_true rfl⟩ ⟨Nat.le_of_ble_eq_true rfl, Nat.le_of_ble_eq_true rfl⟩ (Nat.le_of_ble_eq_true rfl) dX1_isAllThere_79 (fun r_47 hp => ?_)
        subst hp
        refine g_topi (v := (nI (max (dE x) (dE y)))) (nI_max (by have := dE_lt h.1.1; omega) (by have := dE_lt h.1.2; omega)) ?_
        refine lv_dload hx hb dX1_isAllThere_82 (lv_at hl 2 rfl) ?_
        refine gcS1_iP hCF hwm hl.1 (m_exponentOf l z H0 (FP.dadd x y) h.2.1.1.num ) (lw_S q380 q381 q65 q382) yd_X1_exponentOf ⟨Nat.le_of_ble_eq_true rfl, Nat.le_of_ble_eq_true rfl⟩ ⟨Nat.le_of_ble_eq_true rfl, Nat.le_of_ble_eq_true rfl⟩ (Nat.le_of_ble_eq_true rfl) dX1_isAllThere_84 (fun r_48 hp => ?_)
        subst hp
        refine lv_dload hx hb dX1_isAllThere_87 (lv_at hl 1 rfl) ?_
        refine gcS1_iP hCF hwm hl.1 (m_exponentOf l z H0 (lost x y) h.2.2.2.2.num ) (lw_S q380 q381 q65 q382) yd_X1_exponentOf ⟨Nat.le_of_ble_eq_true rfl, Nat.le_of_ble_eq_true rfl⟩ ⟨Nat.le_of_ble_eq_true rfl, Nat.le_of_ble_eq_true rfl⟩ (Nat.le_of_ble_eq_true rfl) dX1_isAllThere_89 (fun r_49 hp => ?_)
        subst hp
        refine gcS2_iP hCF hwm hl.1 (m_maxI l z H0 (nI (dE (FP.dadd x y))) (nI (dE (lost x y)))  ) (lw_S q427 q267 q72 q268) yd_J12_max ⟨Nat.le_of_ble_eq_true rfl, Nat.le_of_ble_eq_true rfl⟩ ⟨Nat.le_of_ble_eq_true rfl, Nat.le_of_ble_eq_true rfl⟩ (Nat.le_of_ble_eq_true rfl) dX1_isAllThere_92 (fun r_50 hp => ?_)
        subst hp
        refine g_topi (v := (nI (max (dE (FP.dadd x y)) (dE (lost x y))))) (nI_max (by have := dE_lt h.2.1.1; omega) (by have := dE_lt h.2.2.2.2; omega)) ?_
        refine gcS2_iP hCF hwm hl.1 (m_maxI l z H0 (nI (max (dE x) (dE y))) (nI (max (dE (FP.dadd x y)) (dE (lost x y))))  ) (lw_S q427 q267 q72 q268) yd_J12_max ⟨Nat.le_of_ble_eq_true rfl, Nat.le_of_ble_eq_true rfl⟩ ⟨Nat.le_of_ble_eq_true rfl, Nat.le_of_ble_eq_true rfl⟩ (Nat.le_of_ble_eq_true rfl) dX1_isAllThere_95 (fun r_51 hp => ?_)
        subst hp
        refine g_topi (v := (nI (allT x y))) (nI_max (by have := dE_lt h.1.1; have := dE_lt h.1.2; omega) (by have := dE_lt h.2.1.1; have := dE_lt h.2.2.2.2; omega)) ?_
        refine lv_istore hx hb dX1_isAllThere_98 hl (by decide) rfl (fun ls hl => ?_)
        have hl : lv_has ls 13 [(9, .int (nI (allT x y))), (8, .int (nI (allF x y))), (6, .double (lost x y)), (4, .double (FP.dadd x y)), (0, .double x), (2, .double y)] := hl
        refine lv_lconst (v := 0) hx hb dX1_isAllThere_100 (by decide) ?_
        refine g_topl (v := (lI (rst x y (allF x y)))) (by rw [rst_F he]; rfl) ?_
        refine lv_lstore hx hb dX1_isAllThere_101 hl (by decide) rfl (fun ls hl => ?_)
        have hl : lv_has ls 13 [(10, .long (lI (rst x y (allF x y)))), (9, .int (nI (allT x y))), (8, .int (nI (allF x y))), (6, .double (lost x y)), (4, .double (FP.dadd x y)), (0, .double x), (2, .double y)] := hl
        refine lv_iload hx hb dX1_isAllThere_103 (lv_at hl 2 rfl) ?_
        refine lv_istore hx hb dX1_isAllThere_105 hl (by decide) rfl (fun ls hl => ?_)
        have hl : lv_has ls 13 [(12, .int (nI (allF x y))), (10, .long (lI (rst x y (allF x y)))), (9, .int (nI (allT x y))), (8, .int (nI (allF x y))), (6, .double (lost x y)), (4, .double (FP.dadd x y)), (0, .double x), (2, .double y)] := hl
        have loop : ∀ (n_ : Nat) (t : Nat), (t ≤ 2200) → (2300 - t) < n_ → ∀ (ls : Array Slot), lv_has ls 13 [(12, .int (nI t)), (10, .long (lI (rst x y t))), (9, .int (nI (allT x y))), (8, .int (nI (allF x y))), (6, .double (lost x y)), (4, .double (FP.dadd x y)), (0, .double x), (2, .double y)] → W p l e { frames := 7, cells := 0, slots := 0, locals := 153 } s m [.double x, .double y].toArray below meth c H0 [] 0 0 (MQ below (gPi H0 (fun r => r = gb true)) [.double x, .double y].toArray s 0 0 (gno)) (F0 m 107 ls []) := by
          intro n_
          induction n_ with
          | zero => intro t ht hm_; exact absurd hm_ (Nat.not_lt_zero _)
          | succ n_ ih_loop =>
            intro t ht hm_ ls hl
            refine lv_iload hx hb dX1_isAllThere_107 (lv_at hl 0 rfl) ?_
            refine lv_iload hx hb dX1_isAllThere_109 (lv_at hl 2 rfl) ?_
            refine lv_bipush (v := 52) hx hb dX1_isAllThere_111 (by decide) ?_
            refine lv_iadd hx hb dX1_isAllThere_113 ?_
            refine g_topi (v := (nI (allT x y + 52))) ?_ ?_
            · skip
              rw [nI_iI, show (52 : Int32) = iI 52 from by decide, iI_add]
              rfl
            refine lv_icmp_gt (tgt := 177) hx hb dX1_isAllThere_114 (by decide) (fun c_114 => ?_) (fun c_114 => ?_)
            · skip
              have htT : allT x y + 52 < t := by
                have := allT_b h
                exact (nI_ltI (by omega) (by omega)).mp c_114
              refine lv_lload hx hb dX1_isAllThere_177 (lv_at hl 1 rfl) ?_
              refine lv_lconst (v := 0) hx hb dX1_isAllThere_179 (by decide) ?_
              refine W.lcmp hx hb dX1_isAllThere_180 ?_
              refine lv_if_ne (tgt := 188) hx hb dX1_isAllThere_181 (by decide) (fun c_181 => absurd (by rw [rst_top h htT]; decide) c_181) (fun c_181 => ?_)
              refine lv_iconst (v := 1) hx hb dX1_isAllThere_184 (by decide) ?_
              refine lv_goto (tgt := 189) hx hb dX1_isAllThere_185 (by decide) ?_
              refine g_zretP hx hb hr hlocks (rfl) ?_ dX1_isAllThere_189
              rfl
            · skip
              have htT : t ≤ allT x y + 52 := by
                have := allT_b h
                exact Nat.not_lt.mp (fun q => c_114 ((nI_ltI (by omega) (by omega)).mpr q))
              have hTb := allT_b h
              refine lv_lload hx hb dX1_isAllThere_117 (lv_at hl 1 rfl) ?_
              refine lv_dload hx hb dX1_isAllThere_119 (lv_at hl 5 rfl) ?_
              refine lv_iload hx hb dX1_isAllThere_121 (lv_at hl 0 rfl) ?_
              refine gcS2_lP hCF hwm hl.1 (m_pieceOf l z H0 (FP.dadd x y) t h.2.1.1 (by omega) ) (lw_S q2216 q2217 q65 q2218) yd_X1_pieceOf ⟨Nat.le_of_ble_eq_true rfl, Nat.le_of_ble_eq_true rfl⟩ ⟨Nat.le_of_ble_eq_true rfl, Nat.le_of_ble_eq_true rfl⟩ (Nat.le_of_ble_eq_true rfl) dX1_isAllThere_123 (fun r_52 hp => ?_)
              subst hp
              refine lv_dload hx hb dX1_isAllThere_126 (lv_at hl 4 rfl) ?_
              refine lv_iload hx hb dX1_isAllThere_128 (lv_at hl 0 rfl) ?_
              refine gcS2_lP hCF hwm hl.1 (m_pieceOf l z H0 (lost x y) t h.2.2.2.2 (by omega) ) (lw_S q2216 q2217 q65 q2218) yd_X1_pieceOf ⟨Nat.le_of_ble_eq_true rfl, Nat.le_of_ble_eq_true rfl⟩ ⟨Nat.le_of_ble_eq_true rfl, Nat.le_of_ble_eq_true rfl⟩ (Nat.le_of_ble_eq_true rfl) dX1_isAllThere_130 (fun r_53 hp => ?_)
              subst hp
              refine lv_ladd hx hb dX1_isAllThere_133 ?_
              refine lv_dload_n hx hb dX1_isAllThere_134 rfl (lv_at hl 6 rfl) ?_
              refine lv_iload hx hb dX1_isAllThere_135 (lv_at hl 0 rfl) ?_
              refine gcS2_lP hCF hwm hl.1 (m_pieceOf l z H0 x t h.1.1 (by omega) ) (lw_S q2216 q2217 q65 q2218) yd_X1_pieceOf ⟨Nat.le_of_ble_eq_true rfl, Nat.le_of_ble_eq_true rfl⟩ ⟨Nat.le_of_ble_eq_true rfl, Nat.le_of_ble_eq_true rfl⟩ (Nat.le_of_ble_eq_true rfl) dX1_isAllThere_137 (fun r_54 hp => ?_)
              subst hp
              refine lv_lsub hx hb dX1_isAllThere_140 ?_
              refine lv_dload_n hx hb dX1_isAllThere_141 rfl (lv_at hl 7 rfl) ?_
              refine lv_iload hx hb dX1_isAllThere_142 (lv_at hl 0 rfl) ?_
              refine gcS2_lP hCF hwm hl.1 (m_pieceOf l z H0 y t h.1.2 (by omega) ) (lw_S q2216 q2217 q65 q2218) yd_X1_pieceOf ⟨Nat.le_of_ble_eq_true rfl, Nat.le_of_ble_eq_true rfl⟩ ⟨Nat.le_of_ble_eq_true rfl, Nat.le_of_ble_eq_true rfl⟩ (Nat.le_of_ble_eq_true rfl) dX1_isAllThere_144 (fun r_55 hp => ?_)
              subst hp
              refine lv_lsub hx hb dX1_isAllThere_147 ?_
              refine lv_ladd hx hb dX1_isAllThere_148 ?_
              refine g_topl (v := (lI (rst x y (t + 32) * 4294967296))) ?_ ?_
              · skip
                rw [lI_add, lI_sub, lI_sub, lI_add, ← rst_step]
                rfl
              refine lv_lstore hx hb dX1_isAllThere_149 hl (by decide) rfl (fun ls hl => ?_)
              have hl : lv_has ls 13 [(10, .long (lI (rst x y (t + 32) * 4294967296))), (12, .int (nI t)), (9, .int (nI (allT x y))), (8, .int (nI (allF x y))), (6, .double (lost x y)), (4, .double (FP.dadd x y)), (0, .double x), (2, .double y)] := hl
              refine lv_lload hx hb dX1_isAllThere_151 (lv_at hl 0 rfl) ?_
              refine lv_ldc2 (v := 4294967295) hx hb hown (hts _ q1909) dX1_isAllThere_153 ?_
              refine lv_land hx hb dX1_isAllThere_156 ?_
              refine lv_lconst (v := 0) hx hb dX1_isAllThere_157 (by decide) ?_
              refine W.lcmp hx hb dX1_isAllThere_158 ?_
              refine lv_if_eq (tgt := 164) hx hb dX1_isAllThere_159 (by decide) (fun c_159 => ?_) (fun c_159 => absurd (by rw [lI_low]; rfl) c_159)
              refine lv_lload hx hb dX1_isAllThere_164 (lv_at hl 0 rfl) ?_
              refine lv_bipush (v := 32) hx hb dX1_isAllThere_166 (by decide) ?_
              refine lv_lshr hx hb dX1_isAllThere_168 rfl ?_
              refine g_topl (v := (lI (rst x y (t + 32)))) ?_ ?_
              · skip
                have := rst_b he (t + 32)
                exact lI_sr32 (by omega) (by omega)
              refine lv_lstore hx hb dX1_isAllThere_169 hl (by decide) rfl (fun ls hl => ?_)
              have hl : lv_has ls 13 [(10, .long (lI (rst x y (t + 32)))), (12, .int (nI t)), (9, .int (nI (allT x y))), (8, .int (nI (allF x y))), (6, .double (lost x y)), (4, .double (FP.dadd x y)), (0, .double x), (2, .double y)] := hl
              refine lv_iinc (k := 1) (v := (nI (t + 32))) hx hb dX1_isAllThere_171 hl rfl (by rw [show Int32.ofInt 32 = iI 32 from rfl, nI_iI, iI_add]; rfl) (by decide) rfl (fun ls hl => ?_)
              have hl : lv_has ls 13 [(12, .int (nI (t + 32))), (10, .long (lI (rst x y (t + 32)))), (9, .int (nI (allT x y))), (8, .int (nI (allF x y))), (6, .double (lost x y)), (4, .double (FP.dadd x y)), (0, .double x), (2, .double y)] := hl
              refine lv_goto (tgt := 107) hx hb dX1_isAllThere_174 (by decide) ?_
              exact ih_loop (t + 32) (by omega) (by omega) ls (lv_sub hl [0, 1, 2, 3, 4, 5, 6, 7] rfl)
        exact loop _ (allF x y) (by have := allF_b h; omega) (Nat.lt_succ_self _) ls (lv_sub hl [0, 1, 2, 3, 4, 5, 6, 7] rfl)
      · skip
        refine lv_dload hx hb dX1_isAllThere_33 (lv_at hl 0 rfl) ?_
        refine lv_dload_n hx hb dX1_isAllThere_35 rfl (lv_at hl 2 rfl) ?_
        refine lv_dcmp hx hb dX1_isAllThere_36 ?_
        refine g_topi (v := (cK (lost x y) x)) (cK_of h.2.2.2.2.num h.1.1.num) ?_
        refine lv_if_ne (tgt := 42) hx hb dX1_isAllThere_37 (by decide) (fun c_37 => ?_) (fun c_37 => ?_)
        · skip
          refine lv_dload_n hx hb dX1_isAllThere_42 rfl (lv_at hl 2 rfl) ?_
          refine gcS1_iP hCF hwm hl.1 (m_lastOf l z H0 x h.1.1.num ) (lw_S q2212 q2213 q65 q2214) yd_X1_lastOf ⟨Nat.le_of_ble_eq_true rfl, Nat.le_of_ble_eq_true rfl⟩ ⟨Nat.le_of_ble_eq_true rfl, Nat.le_of_ble_eq_true rfl⟩ (Nat.le_of_ble_eq_true rfl) dX1_isAllThere_43 (fun r_56 hp => ?_)
          subst hp
          refine g_topi (v := (nI (lst x))) (rfl) ?_
          refine lv_dload_n hx hb dX1_isAllThere_46 rfl (lv_at hl 3 rfl) ?_
          refine gcS1_iP hCF hwm hl.1 (m_lastOf l z H0 y h.1.2.num ) (lw_S q2212 q2213 q65 q2214) yd_X1_lastOf ⟨Nat.le_of_ble_eq_true rfl, Nat.le_of_ble_eq_true rfl⟩ ⟨Nat.le_of_ble_eq_true rfl, Nat.le_of_ble_eq_true rfl⟩ (Nat.le_of_ble_eq_true rfl) dX1_isAllThere_47 (fun r_57 hp => ?_)
          subst hp
          refine g_topi (v := (nI (lst y))) (rfl) ?_
          refine gcS2_iP hCF hwm hl.1 (m_minI l z H0 (nI (lst x)) (nI (lst y))  ) (lw_S q2215 q284 q72 q285) yd_J12_min ⟨Nat.le_of_ble_eq_true rfl, Nat.le_of_ble_eq_true rfl⟩ ⟨Nat.le_of_ble_eq_true rfl, Nat.le_of_ble_eq_true rfl⟩ (Nat.le_of_ble_eq_true rfl) dX1_isAllThere_50 (fun r_58 hp => ?_)
          subst hp
          refine g_topi (v := (nI (min (lst x) (lst y)))) (nI_min (by have := lst_b h.1.1; omega) (by have := lst_b h.1.2; omega)) ?_
          refine lv_dload hx hb dX1_isAllThere_53 (lv_at hl 1 rfl) ?_
          refine gcS1_iP hCF hwm hl.1 (m_lastOf l z H0 (FP.dadd x y) h.2.1.1.num ) (lw_S q2212 q2213 q65 q2214) yd_X1_lastOf ⟨Nat.le_of_ble_eq_true rfl, Nat.le_of_ble_eq_true rfl⟩ ⟨Nat.le_of_ble_eq_true rfl, Nat.le_of_ble_eq_true rfl⟩ (Nat.le_of_ble_eq_true rfl) dX1_isAllThere_55 (fun r_59 hp => ?_)
          subst hp
          refine g_topi (v := (nI (lst (FP.dadd x y)))) (rfl) ?_
          refine lv_dload hx hb dX1_isAllThere_58 (lv_at hl 0 rfl) ?_
          refine gcS1_iP hCF hwm hl.1 (m_lastOf l z H0 (lost x y) h.2.2.2.2.num ) (lw_S q2212 q2213 q65 q2214) yd_X1_lastOf ⟨Nat.le_of_ble_eq_true rfl, Nat.le_of_ble_eq_true rfl⟩ ⟨Nat.le_of_ble_eq_true rfl, Nat.le_of_ble_eq_true rfl⟩ (Nat.le_of_ble_eq_true rfl) dX1_isAllThere_60 (fun r_60 hp => ?_)
          subst hp
          refine g_topi (v := (nI (lst (lost x y)))) (rfl) ?_
          refine gcS2_iP hCF hwm hl.1 (m_minI l z H0 (nI (lst (FP.dadd x y))) (nI (lst (lost x y)))  ) (lw_S q2215 q284 q72 q285) yd_J12_min ⟨Nat.le_of_ble_eq_true rfl, Nat.le_of_ble_eq_true rfl⟩ ⟨Nat.le_of_ble_eq_true rfl, Nat.le_of_ble_eq_true rfl⟩ (Nat.le_of_ble_eq_true rfl) dX1_isAllThere_63 (fun r_61 hp => ?_)
          subst hp
          refine g_topi (v := (nI (min (lst (FP.dadd x y)) (lst (lost x y))))) (nI_min (by have := lst_b h.2.1.1; omega) (by have := lst_b h.2.2.2.2; omega)) ?_
          refine gcS2_iP hCF hwm hl.1 (m_minI l z H0 (nI (min (lst x) (lst y))) (nI (min (lst (FP.dadd x y)) (lst (lost x y))))  ) (lw_S q2215 q284 q72 q285) yd_J12_min ⟨Nat.le_of_ble_eq_true rfl, Nat.le_of_ble_eq_true rfl⟩ ⟨Nat.le_of_ble_eq_true rfl, Nat.le_of_ble_eq_true rfl⟩ (Nat.le_of_ble_eq_true rfl) dX1_isAllThere_66 (fun r_62 hp => ?_)
          subst hp
          refine g_topi (v := (nI (allF x y))) (nI_min (by have := lst_b h.1.1; have := lst_b h.1.2; omega) (by have := lst_b h.2.1.1; have := lst_b h.2.2.2.2; omega)) ?_
          refine lv_istore hx hb dX1_isAllThere_69 hl (by decide) rfl (fun ls hl => ?_)
          have hl : lv_has ls 13 [(8, .int (nI (allF x y))), (6, .double (lost x y)), (4, .double (FP.dadd x y)), (0, .double x), (2, .double y)] := hl
          refine lv_dload_n hx hb dX1_isAllThere_71 rfl (lv_at hl 3 rfl) ?_
          refine gcS1_iP hCF hwm hl.1 (m_exponentOf l z H0 x h.1.1.num ) (lw_S q380 q381 q65 q382) yd_X1_exponentOf ⟨Nat.le_of_ble_eq_true rfl, Nat.le_of_ble_eq_true rfl⟩ ⟨Nat.le_of_ble_eq_true rfl, Nat.le_of_ble_eq_true rfl⟩ (Nat.le_of_ble_eq_true rfl) dX1_isAllThere_72 (fun r_63 hp => ?_)
          subst hp
          refine lv_dload_n hx hb dX1_isAllThere_75 rfl (lv_at hl 4 rfl) ?_
          refine gcS1_iP hCF hwm hl.1 (m_exponentOf l z H0 y h.1.2.num ) (lw_S q380 q381 q65 q382) yd_X1_exponentOf ⟨Nat.le_of_ble_eq_true rfl, Nat.le_of_ble_eq_true rfl⟩ ⟨Nat.le_of_ble_eq_true rfl, Nat.le_of_ble_eq_true rfl⟩ (Nat.le_of_ble_eq_true rfl) dX1_isAllThere_76 (fun r_64 hp => ?_)
          subst hp
          refine gcS2_iP hCF hwm hl.1 (m_maxI l z H0 (nI (dE x)) (nI (dE y))  ) (lw_S q427 q267 q72 q268) yd_J12_max ⟨Nat.le_of_ble_eq_true rfl, Nat.le_of_ble_eq_true rfl⟩ ⟨Nat.le_of_ble_eq_true rfl, Nat.le_of_ble_eq_true rfl⟩ (Nat.le_of_ble_eq_true rfl) dX1_isAllThere_79 (fun r_65 hp => ?_)
          subst hp
          refine g_topi (v := (nI (max (dE x) (dE y)))) (nI_max (by have := dE_lt h.1.1; omega) (by have := dE_lt h.1.2; omega)) ?_
          refine lv_dload hx hb dX1_isAllThere_82 (lv_at hl 2 rfl) ?_
          refine gcS1_iP hCF hwm hl.1 (m_exponentOf l z H0 (FP.dadd x y) h.2.1.1.num ) (lw_S q380 q381 q65 q382) yd_X1_exponentOf ⟨Nat.le_of_ble_eq_true rfl, Nat.le_of_ble_eq_true rfl⟩ ⟨Nat.le_of_ble_eq_true rfl, Nat.le_of_ble_eq_true rfl⟩ (Nat.le_of_ble_eq_true rfl) dX1_isAllThere_84 (fun r_66 hp => ?_)
          subst hp
          refine lv_dload hx hb dX1_isAllThere_87 (lv_at hl 1 rfl) ?_
          refine gcS1_iP hCF hwm hl.1 (m_exponentOf l z H0 (lost x y) h.2.2.2.2.num ) (lw_S q380 q381 q65 q382) yd_X1_exponentOf ⟨Nat.le_of_ble_eq_true rfl, Nat.le_of_ble_eq_true rfl⟩ ⟨Nat.le_of_ble_eq_true rfl, Nat.le_of_ble_eq_true rfl⟩ (Nat.le_of_ble_eq_true rfl) dX1_isAllThere_89 (fun r_67 hp => ?_)
          subst hp
          refine gcS2_iP hCF hwm hl.1 (m_maxI l z H0 (nI (dE (FP.dadd x y))) (nI (dE (lost x y)))  ) (lw_S q427 q267 q72 q268) yd_J12_max ⟨Nat.le_of_ble_eq_true rfl, Nat.le_of_ble_eq_true rfl⟩ ⟨Nat.le_of_ble_eq_true rfl, Nat.le_of_ble_eq_true rfl⟩ (Nat.le_of_ble_eq_true rfl) dX1_isAllThere_92 (fun r_68 hp => ?_)
          subst hp
          refine g_topi (v := (nI (max (dE (FP.dadd x y)) (dE (lost x y))))) (nI_max (by have := dE_lt h.2.1.1; omega) (by have := dE_lt h.2.2.2.2; omega)) ?_
          refine gcS2_iP hCF hwm hl.1 (m_maxI l z H0 (nI (max (dE x) (dE y))) (nI (max (dE (FP.dadd x y)) (dE (lost x y))))  ) (lw_S q427 q267 q72 q268) yd_J12_max ⟨Nat.le_of_ble_eq_true rfl, Nat.le_of_ble_eq_true rfl⟩ ⟨Nat.le_of_ble_eq_true rfl, Nat.le_of_ble_eq_true rfl⟩ (Nat.le_of_ble_eq_true rfl) dX1_isAllThere_95 (fun r_69 hp => ?_)
          subst hp
          refine g_topi (v := (nI (allT x y))) (nI_max (by have := dE_lt h.1.1; have := dE_lt h.1.2; omega) (by have := dE_lt h.2.1.1; have := dE_lt h.2.2.2.2; omega)) ?_
          refine lv_istore hx hb dX1_isAllThere_98 hl (by decide) rfl (fun ls hl => ?_)
          have hl : lv_has ls 13 [(9, .int (nI (allT x y))), (8, .int (nI (allF x y))), (6, .double (lost x y)), (4, .double (FP.dadd x y)), (0, .double x), (2, .double y)] := hl
          refine lv_lconst (v := 0) hx hb dX1_isAllThere_100 (by decide) ?_
          refine g_topl (v := (lI (rst x y (allF x y)))) (by rw [rst_F he]; rfl) ?_
          refine lv_lstore hx hb dX1_isAllThere_101 hl (by decide) rfl (fun ls hl => ?_)
          have hl : lv_has ls 13 [(10, .long (lI (rst x y (allF x y)))), (9, .int (nI (allT x y))), (8, .int (nI (allF x y))), (6, .double (lost x y)), (4, .double (FP.dadd x y)), (0, .double x), (2, .double y)] := hl
          refine lv_iload hx hb dX1_isAllThere_103 (lv_at hl 2 rfl) ?_
          refine lv_istore hx hb dX1_isAllThere_105 hl (by decide) rfl (fun ls hl => ?_)
          have hl : lv_has ls 13 [(12, .int (nI (allF x y))), (10, .long (lI (rst x y (allF x y)))), (9, .int (nI (allT x y))), (8, .int (nI (allF x y))), (6, .double (lost x y)), (4, .double (FP.dadd x y)), (0, .double x), (2, .double y)] := hl
          have loop : ∀ (n_ : Nat) (t : Nat), (t ≤ 2200) → (2300 - t) < n_ → ∀ (ls : Array Slot), lv_has ls 13 [(12, .int (nI t)), (10, .long (lI (rst x y t))), (9, .int (nI (allT x y))), (8, .int (nI (allF x y))), (6, .double (lost x y)), (4, .double (FP.dadd x y)), (0, .double x), (2, .double y)] → W p l e { frames := 7, cells := 0, slots := 0, locals := 153 } s m [.double x, .double y].toArray below meth c H0 [] 0 0 (MQ below (gPi H0 (fun r => r = gb true)) [.double x, .double y].toArray s 0 0 (gno)) (F0 m 107 ls []) := by
            intro n_
            induction n_ with
            | zero => intro t ht hm_; exact absurd hm_ (Nat.not_lt_zero _)
            | succ n_ ih_loop =>
              intro t ht hm_ ls hl
              refine lv_iload hx hb dX1_isAllThere_107 (lv_at hl 0 rfl) ?_
              refine lv_iload hx hb dX1_isAllThere_109 (lv_at hl 2 rfl) ?_
              refine lv_bipush (v := 52) hx hb dX1_isAllThere_111 (by decide) ?_
              refine lv_iadd hx hb dX1_isAllThere_113 ?_
              refine g_topi (v := (nI (allT x y + 52))) ?_ ?_
              · skip
                rw [nI_iI, show (52 : Int32) = iI 52 from by decide, iI_add]
                rfl
              refine lv_icmp_gt (tgt := 177) hx hb dX1_isAllThere_114 (by decide) (fun c_114 => ?_) (fun c_114 => ?_)
              · skip
                have htT : allT x y + 52 < t := by
                  have := allT_b h
                  exact (nI_ltI (by omega) (by omega)).mp c_114
                refine lv_lload hx hb dX1_isAllThere_177 (lv_at hl 1 rfl) ?_
                refine lv_lconst (v := 0) hx hb dX1_isAllThere_179 (by decide) ?_
                refine W.lcmp hx hb dX1_isAllThere_180 ?_
                refine lv_if_ne (tgt := 188) hx hb dX1_isAllThere_181 (by decide) (fun c_181 => absurd (by rw [rst_top h htT]; decide) c_181) (fun c_181 => ?_)
                refine lv_iconst (v := 1) hx hb dX1_isAllThere_184 (by decide) ?_
                refine lv_goto (tgt := 189) hx hb dX1_isAllThere_185 (by decide) ?_
                refine g_zretP hx hb hr hlocks (rfl) ?_ dX1_isAllThere_189
                rfl
              · skip
                have htT : t ≤ allT x y + 52 := by
                  have := allT_b h
                  exact Nat.not_lt.mp (fun q => c_114 ((nI_ltI (by omega) (by omega)).mpr q))
                have hTb := allT_b h
                refine lv_lload hx hb dX1_isAllThere_117 (lv_at hl 1 rfl) ?_
                refine lv_dload hx hb dX1_isAllThere_119 (lv_at hl 5 rfl) ?_
                refine lv_iload hx hb dX1_isAllThere_121 (lv_at hl 0 rfl) ?_
                refine gcS2_lP hCF hwm hl.1 (m_pieceOf l z H0 (FP.dadd x y) t h.2.1.1 (by omega) ) (lw_S q2216 q2217 q65 q2218) yd_X1_pieceOf ⟨Nat.le_of_ble_eq_true rfl, Nat.le_of_ble_eq_true rfl⟩ ⟨Nat.le_of_ble_eq_true rfl, Nat.le_of_ble_eq_true rfl⟩ (Nat.le_of_ble_eq_true rfl) dX1_isAllThere_123 (fun r_70 hp => ?_)
                subst hp
                refine lv_dload hx hb dX1_isAllThere_126 (lv_at hl 4 rfl) ?_
                refine lv_iload hx hb dX1_isAllThere_128 (lv_at hl 0 rfl) ?_
                refine gcS2_lP hCF hwm hl.1 (m_pieceOf l z H0 (lost x y) t h.2.2.2.2 (by omega) ) (lw_S q2216 q2217 q65 q2218) yd_X1_pieceOf ⟨Nat.le_of_ble_eq_true rfl, Nat.le_of_ble_eq_true rfl⟩ ⟨Nat.le_of_ble_eq_true rfl, Nat.le_of_ble_eq_true rfl⟩ (Nat.le_of_ble_eq_true rfl) dX1_isAllThere_130 (fun r_71 hp => ?_)
                subst hp
                refine lv_ladd hx hb dX1_isAllThere_133 ?_
                refine lv_dload_n hx hb dX1_isAllThere_134 rfl (lv_at hl 6 rfl) ?_
                refine lv_iload hx hb dX1_isAllThere_135 (lv_at hl 0 rfl) ?_
                refine gcS2_lP hCF hwm hl.1 (m_pieceOf l z H0 x t h.1.1 (by omega) ) (lw_S q2216 q2217 q65 q2218) yd_X1_pieceOf ⟨Nat.le_of_ble_eq_true rfl, Nat.le_of_ble_eq_true rfl⟩ ⟨Nat.le_of_ble_eq_true rfl, Nat.le_of_ble_eq_true rfl⟩ (Nat.le_of_ble_eq_true rfl) dX1_isAllThere_137 (fun r_72 hp => ?_)
                subst hp
                refine lv_lsub hx hb dX1_isAllThere_140 ?_
                refine lv_dload_n hx hb dX1_isAllThere_141 rfl (lv_at hl 7 rfl) ?_
                refine lv_iload hx hb dX1_isAllThere_142 (lv_at hl 0 rfl) ?_
                refine gcS2_lP hCF hwm hl.1 (m_pieceOf l z H0 y t h.1.2 (by omega) ) (lw_S q2216 q2217 q65 q2218) yd_X1_pieceOf ⟨Nat.le_of_ble_eq_true rfl, Nat.le_of_ble_eq_true rfl⟩ ⟨Nat.le_of_ble_eq_true rfl, Nat.le_of_ble_eq_true rfl⟩ (Nat.le_of_ble_eq_true rfl) dX1_isAllThere_144 (fun r_73 hp => ?_)
                subst hp
                refine lv_lsub hx hb dX1_isAllThere_147 ?_
                refine lv_ladd hx hb dX1_isAllThere_148 ?_
                refine g_topl (v := (lI (rst x y (t + 32) * 4294967296))) ?_ ?_
                · skip
                  rw [lI_add, lI_sub, lI_sub, lI_add, ← rst_step]
                  rfl
                refine lv_lstore hx hb dX1_isAllThere_149 hl (by decide) rfl (fun ls hl => ?_)
                have hl : lv_has ls 13 [(10, .long (lI (rst x y (t + 32) * 4294967296))), (12, .int (nI t)), (9, .int (nI (allT x y))), (8, .int (nI (allF x y))), (6, .double (lost x y)), (4, .double (FP.dadd x y)), (0, .double x), (2, .double y)] := hl
                refine lv_lload hx hb dX1_isAllThere_151 (lv_at hl 0 rfl) ?_
                refine lv_ldc2 (v := 4294967295) hx hb hown (hts _ q1909) dX1_isAllThere_153 ?_
                refine lv_land hx hb dX1_isAllThere_156 ?_
                refine lv_lconst (v := 0) hx hb dX1_isAllThere_157 (by decide) ?_
                refine W.lcmp hx hb dX1_isAllThere_158 ?_
                refine lv_if_eq (tgt := 164) hx hb dX1_isAllThere_159 (by decide) (fun c_159 => ?_) (fun c_159 => absurd (by rw [lI_low]; rfl) c_159)
                refine lv_lload hx hb dX1_isAllThere_164 (lv_at hl 0 rfl) ?_
                refine lv_bipush (v := 32) hx hb dX1_isAllThere_166 (by decide) ?_
                refine lv_lshr hx hb dX1_isAllThere_168 rfl ?_
                refine g_topl (v := (lI (rst x y (t + 32)))) ?_ ?_
                · skip
                  have := rst_b he (t + 32)
                  exact lI_sr32 (by omega) (by omega)
                refine lv_lstore hx hb dX1_isAllThere_169 hl (by decide) rfl (fun ls hl => ?_)
                have hl : lv_has ls 13 [(10, .long (lI (rst x y (t + 32)))), (12, .int (nI t)), (9, .int (nI (allT x y))), (8, .int (nI (allF x y))), (6, .double (lost x y)), (4, .double (FP.dadd x y)), (0, .double x), (2, .double y)] := hl
                refine lv_iinc (k := 1) (v := (nI (t + 32))) hx hb dX1_isAllThere_171 hl rfl (by rw [show Int32.ofInt 32 = iI 32 from rfl, nI_iI, iI_add]; rfl) (by decide) rfl (fun ls hl => ?_)
                have hl : lv_has ls 13 [(12, .int (nI (t + 32))), (10, .long (lI (rst x y (t + 32)))), (9, .int (nI (allT x y))), (8, .int (nI (allF x y))), (6, .double (lost x y)), (4, .double (FP.dadd x y)), (0, .double x), (2, .double y)] := hl
                refine lv_goto (tgt := 107) hx hb dX1_isAllThere_174 (by decide) ?_
                exact ih_loop (t + 32) (by omega) (by omega) ls (lv_sub hl [0, 1, 2, 3, 4, 5, 6, 7] rfl)
          exact loop _ (allF x y) (by have := allF_b h; omega) (Nat.lt_succ_self _) ls (lv_sub hl [0, 1, 2, 3, 4, 5, 6, 7] rfl)
        · skip
          refine lv_iconst (v := 1) hx hb dX1_isAllThere_40 (by decide) ?_
          refine g_zretP hx hb hr hlocks (rfl) ?_ dX1_isAllThere_41
          rfl
