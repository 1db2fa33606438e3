/-! ## walks (written by tools) -/
set_option maxRecDepth 100000
def dkwJ22_implMulAddCheck_7 : List UInt8 := [190, 28, 100, 182, 2, 2, 182, 0, 254, 183, 0, 149, 191, 177]
abbrev dktJ22_implMulAddCheck_7 : List UInt8 := dkwJ22_implMulAddCheck_7 ++ []
def dkwJ22_implMulAddCheck_6 : List UInt8 := [187, 0, 242, 89, 183, 0, 244, 19, 2, 207, 182, 0, 247, 29, 182, 2, 2, 19, 2, 7, 182, 0, 247, 42]
abbrev dktJ22_implMulAddCheck_6 : List UInt8 := dkwJ22_implMulAddCheck_6 ++ dktJ22_implMulAddCheck_7
def dkwJ22_implMulAddCheck_5 : List UInt8 := [182, 2, 2, 182, 0, 254, 183, 0, 149, 191, 29, 42, 190, 28, 100, 164, 0, 44, 187, 0, 145, 89]
abbrev dktJ22_implMulAddCheck_5 : List UInt8 := dkwJ22_implMulAddCheck_5 ++ dktJ22_implMulAddCheck_6
def dkwJ22_implMulAddCheck_4 : List UInt8 := [183, 0, 244, 19, 2, 205, 182, 0, 247, 28, 182, 2, 2, 19, 2, 7, 182, 0, 247, 42, 190, 4, 100]
abbrev dktJ22_implMulAddCheck_4 : List UInt8 := dkwJ22_implMulAddCheck_4 ++ dktJ22_implMulAddCheck_5
def dkwJ22_implMulAddCheck_3 : List UInt8 := [182, 0, 254, 183, 0, 149, 191, 28, 42, 190, 4, 100, 164, 0, 44, 187, 0, 145, 89, 187, 0, 242, 89]
abbrev dktJ22_implMulAddCheck_3 : List UInt8 := dkwJ22_implMulAddCheck_3 ++ dktJ22_implMulAddCheck_4
def dkwJ22_implMulAddCheck_2 : List UInt8 := [156, 0, 31, 187, 0, 145, 89, 187, 0, 242, 89, 183, 0, 244, 19, 2, 203, 182, 0, 247, 28, 182, 2, 2]
abbrev dktJ22_implMulAddCheck_2 : List UInt8 := dkwJ22_implMulAddCheck_2 ++ dktJ22_implMulAddCheck_3
def dkwJ22_implMulAddCheck_1 : List UInt8 := [182, 2, 2, 19, 2, 7, 182, 0, 247, 43, 190, 182, 2, 2, 182, 0, 254, 183, 0, 149, 191, 28]
abbrev dktJ22_implMulAddCheck_1 : List UInt8 := dkwJ22_implMulAddCheck_1 ++ dktJ22_implMulAddCheck_2
def dkwJ22_implMulAddCheck_0 : List UInt8 := [29, 43, 190, 164, 0, 42, 187, 0, 145, 89, 187, 0, 242, 89, 183, 0, 244, 19, 2, 201, 182, 0, 247, 29]
abbrev dktJ22_implMulAddCheck_0 : List UInt8 := dkwJ22_implMulAddCheck_0 ++ dktJ22_implMulAddCheck_1
theorem dksJ22_implMulAddCheck_0 : cJ22_implMulAddCheck.data.toList.drop 0 = dktJ22_implMulAddCheck_0 := by decide +kernel
theorem dksJ22_implMulAddCheck_1 : cJ22_implMulAddCheck.data.toList.drop 24 = dktJ22_implMulAddCheck_1 := dk_seg dksJ22_implMulAddCheck_0 24 rfl rfl
theorem dksJ22_implMulAddCheck_2 : cJ22_implMulAddCheck.data.toList.drop 46 = dktJ22_implMulAddCheck_2 := dk_seg dksJ22_implMulAddCheck_1 22 rfl rfl
theorem dksJ22_implMulAddCheck_3 : cJ22_implMulAddCheck.data.toList.drop 70 = dktJ22_implMulAddCheck_3 := dk_seg dksJ22_implMulAddCheck_2 24 rfl rfl
theorem dksJ22_implMulAddCheck_4 : cJ22_implMulAddCheck.data.toList.drop 93 = dktJ22_implMulAddCheck_4 := dk_seg dksJ22_implMulAddCheck_3 23 rfl rfl
theorem dksJ22_implMulAddCheck_5 : cJ22_implMulAddCheck.data.toList.drop 116 = dktJ22_implMulAddCheck_5 := dk_seg dksJ22_implMulAddCheck_4 23 rfl rfl
theorem dksJ22_implMulAddCheck_6 : cJ22_implMulAddCheck.data.toList.drop 138 = dktJ22_implMulAddCheck_6 := dk_seg dksJ22_implMulAddCheck_5 22 rfl rfl
theorem dksJ22_implMulAddCheck_7 : cJ22_implMulAddCheck.data.toList.drop 162 = dktJ22_implMulAddCheck_7 := dk_seg dksJ22_implMulAddCheck_6 24 rfl rfl
theorem dJ22_implMulAddCheck_0 : decode cJ22_implMulAddCheck 0 = .ok (.iload_n 3, 1) := dk_29 (dk_at dksJ22_implMulAddCheck_0 0 rfl rfl)
theorem dJ22_implMulAddCheck_1 : decode cJ22_implMulAddCheck 1 = .ok (.aload_n 1, 1) := dk_43 (dk_at dksJ22_implMulAddCheck_0 1 rfl rfl)
theorem dJ22_implMulAddCheck_2 : decode cJ22_implMulAddCheck 2 = .ok (.arraylength, 1) := dk_190 (dk_at dksJ22_implMulAddCheck_0 2 rfl rfl)
theorem dJ22_implMulAddCheck_3 : decode cJ22_implMulAddCheck 3 = .ok (.if_icmp .le 42, 3) := dk_164 0 42 (dk_at dksJ22_implMulAddCheck_0 3 rfl rfl)
theorem dJ22_implMulAddCheck_6 : decode cJ22_implMulAddCheck 6 = .ok (.new 145, 3) := dk_187 0 145 (dk_at dksJ22_implMulAddCheck_0 6 rfl rfl)
theorem dJ22_implMulAddCheck_9 : decode cJ22_implMulAddCheck 9 = .ok (.dup, 1) := dk_89 (dk_at dksJ22_implMulAddCheck_0 9 rfl rfl)
theorem dJ22_implMulAddCheck_10 : decode cJ22_implMulAddCheck 10 = .ok (.new 242, 3) := dk_187 0 242 (dk_at dksJ22_implMulAddCheck_0 10 rfl rfl)
theorem dJ22_implMulAddCheck_13 : decode cJ22_implMulAddCheck 13 = .ok (.dup, 1) := dk_89 (dk_at dksJ22_implMulAddCheck_0 13 rfl rfl)
theorem dJ22_implMulAddCheck_14 : decode cJ22_implMulAddCheck 14 = .ok (.invokespecial 244, 3) := dk_183 0 244 (dk_at dksJ22_implMulAddCheck_0 14 rfl rfl)
theorem dJ22_implMulAddCheck_17 : decode cJ22_implMulAddCheck 17 = .ok (.ldc_w 713, 3) := dk_19 2 201 (dk_at dksJ22_implMulAddCheck_0 17 rfl rfl)
theorem dJ22_implMulAddCheck_20 : decode cJ22_implMulAddCheck 20 = .ok (.invokevirtual 247, 3) := dk_182 0 247 (dk_at dksJ22_implMulAddCheck_0 20 rfl rfl)
theorem dJ22_implMulAddCheck_23 : decode cJ22_implMulAddCheck 23 = .ok (.iload_n 3, 1) := dk_29 (dk_at dksJ22_implMulAddCheck_0 23 rfl rfl)
theorem dJ22_implMulAddCheck_24 : decode cJ22_implMulAddCheck 24 = .ok (.invokevirtual 514, 3) := dk_182 2 2 (dk_at dksJ22_implMulAddCheck_1 0 rfl rfl)
theorem dJ22_implMulAddCheck_27 : decode cJ22_implMulAddCheck 27 = .ok (.ldc_w 519, 3) := dk_19 2 7 (dk_at dksJ22_implMulAddCheck_1 3 rfl rfl)
theorem dJ22_implMulAddCheck_30 : decode cJ22_implMulAddCheck 30 = .ok (.invokevirtual 247, 3) := dk_182 0 247 (dk_at dksJ22_implMulAddCheck_1 6 rfl rfl)
theorem dJ22_implMulAddCheck_33 : decode cJ22_implMulAddCheck 33 = .ok (.aload_n 1, 1) := dk_43 (dk_at dksJ22_implMulAddCheck_1 9 rfl rfl)
theorem dJ22_implMulAddCheck_34 : decode cJ22_implMulAddCheck 34 = .ok (.arraylength, 1) := dk_190 (dk_at dksJ22_implMulAddCheck_1 10 rfl rfl)
theorem dJ22_implMulAddCheck_35 : decode cJ22_implMulAddCheck 35 = .ok (.invokevirtual 514, 3) := dk_182 2 2 (dk_at dksJ22_implMulAddCheck_1 11 rfl rfl)
theorem dJ22_implMulAddCheck_38 : decode cJ22_implMulAddCheck 38 = .ok (.invokevirtual 254, 3) := dk_182 0 254 (dk_at dksJ22_implMulAddCheck_1 14 rfl rfl)
theorem dJ22_implMulAddCheck_41 : decode cJ22_implMulAddCheck 41 = .ok (.invokespecial 149, 3) := dk_183 0 149 (dk_at dksJ22_implMulAddCheck_1 17 rfl rfl)
theorem dJ22_implMulAddCheck_44 : decode cJ22_implMulAddCheck 44 = .ok (.athrow, 1) := dk_191 (dk_at dksJ22_implMulAddCheck_1 20 rfl rfl)
theorem dJ22_implMulAddCheck_45 : decode cJ22_implMulAddCheck 45 = .ok (.iload_n 2, 1) := dk_28 (dk_at dksJ22_implMulAddCheck_1 21 rfl rfl)
theorem dJ22_implMulAddCheck_46 : decode cJ22_implMulAddCheck 46 = .ok (.ifCond .ge 31, 3) := dk_156 0 31 (dk_at dksJ22_implMulAddCheck_2 0 rfl rfl)
theorem dJ22_implMulAddCheck_49 : decode cJ22_implMulAddCheck 49 = .ok (.new 145, 3) := dk_187 0 145 (dk_at dksJ22_implMulAddCheck_2 3 rfl rfl)
theorem dJ22_implMulAddCheck_52 : decode cJ22_implMulAddCheck 52 = .ok (.dup, 1) := dk_89 (dk_at dksJ22_implMulAddCheck_2 6 rfl rfl)
theorem dJ22_implMulAddCheck_53 : decode cJ22_implMulAddCheck 53 = .ok (.new 242, 3) := dk_187 0 242 (dk_at dksJ22_implMulAddCheck_2 7 rfl rfl)
theorem dJ22_implMulAddCheck_56 : decode cJ22_implMulAddCheck 56 = .ok (.dup, 1) := dk_89 (dk_at dksJ22_implMulAddCheck_2 10 rfl rfl)
theorem dJ22_implMulAddCheck_57 : decode cJ22_implMulAddCheck 57 = .ok (.invokespecial 244, 3) := dk_183 0 244 (dk_at dksJ22_implMulAddCheck_2 11 rfl rfl)
theorem dJ22_implMulAddCheck_60 : decode cJ22_implMulAddCheck 60 = .ok (.ldc_w 715, 3) := dk_19 2 203 (dk_at dksJ22_implMulAddCheck_2 14 rfl rfl)
theorem dJ22_implMulAddCheck_63 : decode cJ22_implMulAddCheck 63 = .ok (.invokevirtual 247, 3) := dk_182 0 247 (dk_at dksJ22_implMulAddCheck_2 17 rfl rfl)
theorem dJ22_implMulAddCheck_66 : decode cJ22_implMulAddCheck 66 = .ok (.iload_n 2, 1) := dk_28 (dk_at dksJ22_implMulAddCheck_2 20 rfl rfl)
theorem dJ22_implMulAddCheck_67 : decode cJ22_implMulAddCheck 67 = .ok (.invokevirtual 514, 3) := dk_182 2 2 (dk_at dksJ22_implMulAddCheck_2 21 rfl rfl)
theorem dJ22_implMulAddCheck_70 : decode cJ22_implMulAddCheck 70 = .ok (.invokevirtual 254, 3) := dk_182 0 254 (dk_at dksJ22_implMulAddCheck_3 0 rfl rfl)
theorem dJ22_implMulAddCheck_73 : decode cJ22_implMulAddCheck 73 = .ok (.invokespecial 149, 3) := dk_183 0 149 (dk_at dksJ22_implMulAddCheck_3 3 rfl rfl)
theorem dJ22_implMulAddCheck_76 : decode cJ22_implMulAddCheck 76 = .ok (.athrow, 1) := dk_191 (dk_at dksJ22_implMulAddCheck_3 6 rfl rfl)
theorem dJ22_implMulAddCheck_77 : decode cJ22_implMulAddCheck 77 = .ok (.iload_n 2, 1) := dk_28 (dk_at dksJ22_implMulAddCheck_3 7 rfl rfl)
theorem dJ22_implMulAddCheck_78 : decode cJ22_implMulAddCheck 78 = .ok (.aload_n 0, 1) := dk_42 (dk_at dksJ22_implMulAddCheck_3 8 rfl rfl)
theorem dJ22_implMulAddCheck_79 : decode cJ22_implMulAddCheck 79 = .ok (.arraylength, 1) := dk_190 (dk_at dksJ22_implMulAddCheck_3 9 rfl rfl)
theorem dJ22_implMulAddCheck_80 : decode cJ22_implMulAddCheck 80 = .ok (.iconst 1, 1) := dk_4 (dk_at dksJ22_implMulAddCheck_3 10 rfl rfl)
theorem dJ22_implMulAddCheck_81 : decode cJ22_implMulAddCheck 81 = .ok (.isub, 1) := dk_100 (dk_at dksJ22_implMulAddCheck_3 11 rfl rfl)
theorem dJ22_implMulAddCheck_82 : decode cJ22_implMulAddCheck 82 = .ok (.if_icmp .le 44, 3) := dk_164 0 44 (dk_at dksJ22_implMulAddCheck_3 12 rfl rfl)
theorem dJ22_implMulAddCheck_85 : decode cJ22_implMulAddCheck 85 = .ok (.new 145, 3) := dk_187 0 145 (dk_at dksJ22_implMulAddCheck_3 15 rfl rfl)
theorem dJ22_implMulAddCheck_88 : decode cJ22_implMulAddCheck 88 = .ok (.dup, 1) := dk_89 (dk_at dksJ22_implMulAddCheck_3 18 rfl rfl)
theorem dJ22_implMulAddCheck_89 : decode cJ22_implMulAddCheck 89 = .ok (.new 242, 3) := dk_187 0 242 (dk_at dksJ22_implMulAddCheck_3 19 rfl rfl)
theorem dJ22_implMulAddCheck_92 : decode cJ22_implMulAddCheck 92 = .ok (.dup, 1) := dk_89 (dk_at dksJ22_implMulAddCheck_3 22 rfl rfl)
theorem dJ22_implMulAddCheck_93 : decode cJ22_implMulAddCheck 93 = .ok (.invokespecial 244, 3) := dk_183 0 244 (dk_at dksJ22_implMulAddCheck_4 0 rfl rfl)
theorem dJ22_implMulAddCheck_96 : decode cJ22_implMulAddCheck 96 = .ok (.ldc_w 717, 3) := dk_19 2 205 (dk_at dksJ22_implMulAddCheck_4 3 rfl rfl)
theorem dJ22_implMulAddCheck_99 : decode cJ22_implMulAddCheck 99 = .ok (.invokevirtual 247, 3) := dk_182 0 247 (dk_at dksJ22_implMulAddCheck_4 6 rfl rfl)
theorem dJ22_implMulAddCheck_102 : decode cJ22_implMulAddCheck 102 = .ok (.iload_n 2, 1) := dk_28 (dk_at dksJ22_implMulAddCheck_4 9 rfl rfl)
theorem dJ22_implMulAddCheck_103 : decode cJ22_implMulAddCheck 103 = .ok (.invokevirtual 514, 3) := dk_182 2 2 (dk_at dksJ22_implMulAddCheck_4 10 rfl rfl)
theorem dJ22_implMulAddCheck_106 : decode cJ22_implMulAddCheck 106 = .ok (.ldc_w 519, 3) := dk_19 2 7 (dk_at dksJ22_implMulAddCheck_4 13 rfl rfl)
theorem dJ22_implMulAddCheck_109 : decode cJ22_implMulAddCheck 109 = .ok (.invokevirtual 247, 3) := dk_182 0 247 (dk_at dksJ22_implMulAddCheck_4 16 rfl rfl)
theorem dJ22_implMulAddCheck_112 : decode cJ22_implMulAddCheck 112 = .ok (.aload_n 0, 1) := dk_42 (dk_at dksJ22_implMulAddCheck_4 19 rfl rfl)
theorem dJ22_implMulAddCheck_113 : decode cJ22_implMulAddCheck 113 = .ok (.arraylength, 1) := dk_190 (dk_at dksJ22_implMulAddCheck_4 20 rfl rfl)
theorem dJ22_implMulAddCheck_114 : decode cJ22_implMulAddCheck 114 = .ok (.iconst 1, 1) := dk_4 (dk_at dksJ22_implMulAddCheck_4 21 rfl rfl)
theorem dJ22_implMulAddCheck_115 : decode cJ22_implMulAddCheck 115 = .ok (.isub, 1) := dk_100 (dk_at dksJ22_implMulAddCheck_4 22 rfl rfl)
theorem dJ22_implMulAddCheck_116 : decode cJ22_implMulAddCheck 116 = .ok (.invokevirtual 514, 3) := dk_182 2 2 (dk_at dksJ22_implMulAddCheck_5 0 rfl rfl)
theorem dJ22_implMulAddCheck_119 : decode cJ22_implMulAddCheck 119 = .ok (.invokevirtual 254, 3) := dk_182 0 254 (dk_at dksJ22_implMulAddCheck_5 3 rfl rfl)
theorem dJ22_implMulAddCheck_122 : decode cJ22_implMulAddCheck 122 = .ok (.invokespecial 149, 3) := dk_183 0 149 (dk_at dksJ22_implMulAddCheck_5 6 rfl rfl)
theorem dJ22_implMulAddCheck_125 : decode cJ22_implMulAddCheck 125 = .ok (.athrow, 1) := dk_191 (dk_at dksJ22_implMulAddCheck_5 9 rfl rfl)
theorem dJ22_implMulAddCheck_126 : decode cJ22_implMulAddCheck 126 = .ok (.iload_n 3, 1) := dk_29 (dk_at dksJ22_implMulAddCheck_5 10 rfl rfl)
theorem dJ22_implMulAddCheck_127 : decode cJ22_implMulAddCheck 127 = .ok (.aload_n 0, 1) := dk_42 (dk_at dksJ22_implMulAddCheck_5 11 rfl rfl)
theorem dJ22_implMulAddCheck_128 : decode cJ22_implMulAddCheck 128 = .ok (.arraylength, 1) := dk_190 (dk_at dksJ22_implMulAddCheck_5 12 rfl rfl)
theorem dJ22_implMulAddCheck_129 : decode cJ22_implMulAddCheck 129 = .ok (.iload_n 2, 1) := dk_28 (dk_at dksJ22_implMulAddCheck_5 13 rfl rfl)
theorem dJ22_implMulAddCheck_130 : decode cJ22_implMulAddCheck 130 = .ok (.isub, 1) := dk_100 (dk_at dksJ22_implMulAddCheck_5 14 rfl rfl)
theorem dJ22_implMulAddCheck_131 : decode cJ22_implMulAddCheck 131 = .ok (.if_icmp .le 44, 3) := dk_164 0 44 (dk_at dksJ22_implMulAddCheck_5 15 rfl rfl)
theorem dJ22_implMulAddCheck_134 : decode cJ22_implMulAddCheck 134 = .ok (.new 145, 3) := dk_187 0 145 (dk_at dksJ22_implMulAddCheck_5 18 rfl rfl)
theorem dJ22_implMulAddCheck_137 : decode cJ22_implMulAddCheck 137 = .ok (.dup, 1) := dk_89 (dk_at dksJ22_implMulAddCheck_5 21 rfl rfl)
theorem dJ22_implMulAddCheck_138 : decode cJ22_implMulAddCheck 138 = .ok (.new 242, 3) := dk_187 0 242 (dk_at dksJ22_implMulAddCheck_6 0 rfl rfl)
theorem dJ22_implMulAddCheck_141 : decode cJ22_implMulAddCheck 141 = .ok (.dup, 1) := dk_89 (dk_at dksJ22_implMulAddCheck_6 3 rfl rfl)
theorem dJ22_implMulAddCheck_142 : decode cJ22_implMulAddCheck 142 = .ok (.invokespecial 244, 3) := dk_183 0 244 (dk_at dksJ22_implMulAddCheck_6 4 rfl rfl)
theorem dJ22_implMulAddCheck_145 : decode cJ22_implMulAddCheck 145 = .ok (.ldc_w 719, 3) := dk_19 2 207 (dk_at dksJ22_implMulAddCheck_6 7 rfl rfl)
theorem dJ22_implMulAddCheck_148 : decode cJ22_implMulAddCheck 148 = .ok (.invokevirtual 247, 3) := dk_182 0 247 (dk_at dksJ22_implMulAddCheck_6 10 rfl rfl)
theorem dJ22_implMulAddCheck_151 : decode cJ22_implMulAddCheck 151 = .ok (.iload_n 3, 1) := dk_29 (dk_at dksJ22_implMulAddCheck_6 13 rfl rfl)
theorem dJ22_implMulAddCheck_152 : decode cJ22_implMulAddCheck 152 = .ok (.invokevirtual 514, 3) := dk_182 2 2 (dk_at dksJ22_implMulAddCheck_6 14 rfl rfl)
theorem dJ22_implMulAddCheck_155 : decode cJ22_implMulAddCheck 155 = .ok (.ldc_w 519, 3) := dk_19 2 7 (dk_at dksJ22_implMulAddCheck_6 17 rfl rfl)
theorem dJ22_implMulAddCheck_158 : decode cJ22_implMulAddCheck 158 = .ok (.invokevirtual 247, 3) := dk_182 0 247 (dk_at dksJ22_implMulAddCheck_6 20 rfl rfl)
theorem dJ22_implMulAddCheck_161 : decode cJ22_implMulAddCheck 161 = .ok (.aload_n 0, 1) := dk_42 (dk_at dksJ22_implMulAddCheck_6 23 rfl rfl)
theorem dJ22_implMulAddCheck_162 : decode cJ22_implMulAddCheck 162 = .ok (.arraylength, 1) := dk_190 (dk_at dksJ22_implMulAddCheck_7 0 rfl rfl)
theorem dJ22_implMulAddCheck_163 : decode cJ22_implMulAddCheck 163 = .ok (.iload_n 2, 1) := dk_28 (dk_at dksJ22_implMulAddCheck_7 1 rfl rfl)
theorem dJ22_implMulAddCheck_164 : decode cJ22_implMulAddCheck 164 = .ok (.isub, 1) := dk_100 (dk_at dksJ22_implMulAddCheck_7 2 rfl rfl)
theorem dJ22_implMulAddCheck_165 : decode cJ22_implMulAddCheck 165 = .ok (.invokevirtual 514, 3) := dk_182 2 2 (dk_at dksJ22_implMulAddCheck_7 3 rfl rfl)
theorem dJ22_implMulAddCheck_168 : decode cJ22_implMulAddCheck 168 = .ok (.invokevirtual 254, 3) := dk_182 0 254 (dk_at dksJ22_implMulAddCheck_7 6 rfl rfl)
theorem dJ22_implMulAddCheck_171 : decode cJ22_implMulAddCheck 171 = .ok (.invokespecial 149, 3) := dk_183 0 149 (dk_at dksJ22_implMulAddCheck_7 9 rfl rfl)
theorem dJ22_implMulAddCheck_174 : decode cJ22_implMulAddCheck 174 = .ok (.athrow, 1) := dk_191 (dk_at dksJ22_implMulAddCheck_7 12 rfl rfl)
theorem dJ22_implMulAddCheck_175 : decode cJ22_implMulAddCheck 175 = .ok (.return_, 1) := dk_177 (dk_at dksJ22_implMulAddCheck_7 13 rfl rfl)
def dkwJ22_implMulAdd_3 : List UInt8 := [132, 9, 255, 167, 255, 206, 22, 7, 136, 172]
abbrev dktJ22_implMulAdd_3 : List UInt8 := dkwJ22_implMulAdd_3 ++ []
def dkwJ22_implMulAdd_2 : List UInt8 := [127, 97, 22, 7, 97, 55, 10, 42, 28, 132, 2, 255, 22, 10, 136, 79, 22, 10, 16, 32, 125, 55, 7]
abbrev dktJ22_implMulAdd_2 : List UInt8 := dkwJ22_implMulAdd_2 ++ dktJ22_implMulAdd_3
def dkwJ22_implMulAdd_1 : List UInt8 := [21, 9, 155, 0, 51, 43, 21, 9, 46, 133, 20, 0, 130, 127, 22, 5, 105, 42, 28, 46, 133, 20, 0, 130]
abbrev dktJ22_implMulAdd_1 : List UInt8 := dkwJ22_implMulAdd_1 ++ dktJ22_implMulAdd_2
def dkwJ22_implMulAdd_0 : List UInt8 := [21, 4, 133, 20, 0, 130, 127, 55, 5, 9, 55, 7, 42, 190, 28, 100, 4, 100, 61, 29, 4, 100, 54, 9]
abbrev dktJ22_implMulAdd_0 : List UInt8 := dkwJ22_implMulAdd_0 ++ dktJ22_implMulAdd_1
theorem dksJ22_implMulAdd_0 : cJ22_implMulAdd.data.toList.drop 0 = dktJ22_implMulAdd_0 := by decide +kernel
theorem dksJ22_implMulAdd_1 : cJ22_implMulAdd.data.toList.drop 24 = dktJ22_implMulAdd_1 := dk_seg dksJ22_implMulAdd_0 24 rfl rfl
theorem dksJ22_implMulAdd_2 : cJ22_implMulAdd.data.toList.drop 48 = dktJ22_implMulAdd_2 := dk_seg dksJ22_implMulAdd_1 24 rfl rfl
theorem dksJ22_implMulAdd_3 : cJ22_implMulAdd.data.toList.drop 71 = dktJ22_implMulAdd_3 := dk_seg dksJ22_implMulAdd_2 23 rfl rfl
theorem dJ22_implMulAdd_0 : decode cJ22_implMulAdd 0 = .ok (.iload 4, 2) := dk_21 4 (dk_at dksJ22_implMulAdd_0 0 rfl rfl)
theorem dJ22_implMulAdd_2 : decode cJ22_implMulAdd 2 = .ok (.i2l, 1) := dk_133 (dk_at dksJ22_implMulAdd_0 2 rfl rfl)
theorem dJ22_implMulAdd_3 : decode cJ22_implMulAdd 3 = .ok (.ldc2_w 130, 3) := dk_20 0 130 (dk_at dksJ22_implMulAdd_0 3 rfl rfl)
theorem dJ22_implMulAdd_6 : decode cJ22_implMulAdd 6 = .ok (.land, 1) := dk_127 (dk_at dksJ22_implMulAdd_0 6 rfl rfl)
theorem dJ22_implMulAdd_7 : decode cJ22_implMulAdd 7 = .ok (.lstore 5, 2) := dk_55 5 (dk_at dksJ22_implMulAdd_0 7 rfl rfl)
theorem dJ22_implMulAdd_9 : decode cJ22_implMulAdd 9 = .ok (.lconst 0, 1) := dk_9 (dk_at dksJ22_implMulAdd_0 9 rfl rfl)
theorem dJ22_implMulAdd_10 : decode cJ22_implMulAdd 10 = .ok (.lstore 7, 2) := dk_55 7 (dk_at dksJ22_implMulAdd_0 10 rfl rfl)
theorem dJ22_implMulAdd_12 : decode cJ22_implMulAdd 12 = .ok (.aload_n 0, 1) := dk_42 (dk_at dksJ22_implMulAdd_0 12 rfl rfl)
theorem dJ22_implMulAdd_13 : decode cJ22_implMulAdd 13 = .ok (.arraylength, 1) := dk_190 (dk_at dksJ22_implMulAdd_0 13 rfl rfl)
theorem dJ22_implMulAdd_14 : decode cJ22_implMulAdd 14 = .ok (.iload_n 2, 1) := dk_28 (dk_at dksJ22_implMulAdd_0 14 rfl rfl)
theorem dJ22_implMulAdd_15 : decode cJ22_implMulAdd 15 = .ok (.isub, 1) := dk_100 (dk_at dksJ22_implMulAdd_0 15 rfl rfl)
theorem dJ22_implMulAdd_16 : decode cJ22_implMulAdd 16 = .ok (.iconst 1, 1) := dk_4 (dk_at dksJ22_implMulAdd_0 16 rfl rfl)
theorem dJ22_implMulAdd_17 : decode cJ22_implMulAdd 17 = .ok (.isub, 1) := dk_100 (dk_at dksJ22_implMulAdd_0 17 rfl rfl)
theorem dJ22_implMulAdd_18 : decode cJ22_implMulAdd 18 = .ok (.istore_n 2, 1) := dk_61 (dk_at dksJ22_implMulAdd_0 18 rfl rfl)
theorem dJ22_implMulAdd_19 : decode cJ22_implMulAdd 19 = .ok (.iload_n 3, 1) := dk_29 (dk_at dksJ22_implMulAdd_0 19 rfl rfl)
theorem dJ22_implMulAdd_20 : decode cJ22_implMulAdd 20 = .ok (.iconst 1, 1) := dk_4 (dk_at dksJ22_implMulAdd_0 20 rfl rfl)
theorem dJ22_implMulAdd_21 : decode cJ22_implMulAdd 21 = .ok (.isub, 1) := dk_100 (dk_at dksJ22_implMulAdd_0 21 rfl rfl)
theorem dJ22_implMulAdd_22 : decode cJ22_implMulAdd 22 = .ok (.istore 9, 2) := dk_54 9 (dk_at dksJ22_implMulAdd_0 22 rfl rfl)
theorem dJ22_implMulAdd_24 : decode cJ22_implMulAdd 24 = .ok (.iload 9, 2) := dk_21 9 (dk_at dksJ22_implMulAdd_1 0 rfl rfl)
theorem dJ22_implMulAdd_26 : decode cJ22_implMulAdd 26 = .ok (.ifCond .lt 51, 3) := dk_155 0 51 (dk_at dksJ22_implMulAdd_1 2 rfl rfl)
theorem dJ22_implMulAdd_29 : decode cJ22_implMulAdd 29 = .ok (.aload_n 1, 1) := dk_43 (dk_at dksJ22_implMulAdd_1 5 rfl rfl)
theorem dJ22_implMulAdd_30 : decode cJ22_implMulAdd 30 = .ok (.iload 9, 2) := dk_21 9 (dk_at dksJ22_implMulAdd_1 6 rfl rfl)
theorem dJ22_implMulAdd_32 : decode cJ22_implMulAdd 32 = .ok (.iaload, 1) := dk_46 (dk_at dksJ22_implMulAdd_1 8 rfl rfl)
theorem dJ22_implMulAdd_33 : decode cJ22_implMulAdd 33 = .ok (.i2l, 1) := dk_133 (dk_at dksJ22_implMulAdd_1 9 rfl rfl)
theorem dJ22_implMulAdd_34 : decode cJ22_implMulAdd 34 = .ok (.ldc2_w 130, 3) := dk_20 0 130 (dk_at dksJ22_implMulAdd_1 10 rfl rfl)
theorem dJ22_implMulAdd_37 : decode cJ22_implMulAdd 37 = .ok (.land, 1) := dk_127 (dk_at dksJ22_implMulAdd_1 13 rfl rfl)
theorem dJ22_implMulAdd_38 : decode cJ22_implMulAdd 38 = .ok (.lload 5, 2) := dk_22 5 (dk_at dksJ22_implMulAdd_1 14 rfl rfl)
theorem dJ22_implMulAdd_40 : decode cJ22_implMulAdd 40 = .ok (.lmul, 1) := dk_105 (dk_at dksJ22_implMulAdd_1 16 rfl rfl)
theorem dJ22_implMulAdd_41 : decode cJ22_implMulAdd 41 = .ok (.aload_n 0, 1) := dk_42 (dk_at dksJ22_implMulAdd_1 17 rfl rfl)
theorem dJ22_implMulAdd_42 : decode cJ22_implMulAdd 42 = .ok (.iload_n 2, 1) := dk_28 (dk_at dksJ22_implMulAdd_1 18 rfl rfl)
theorem dJ22_implMulAdd_43 : decode cJ22_implMulAdd 43 = .ok (.iaload, 1) := dk_46 (dk_at dksJ22_implMulAdd_1 19 rfl rfl)
theorem dJ22_implMulAdd_44 : decode cJ22_implMulAdd 44 = .ok (.i2l, 1) := dk_133 (dk_at dksJ22_implMulAdd_1 20 rfl rfl)
theorem dJ22_implMulAdd_45 : decode cJ22_implMulAdd 45 = .ok (.ldc2_w 130, 3) := dk_20 0 130 (dk_at dksJ22_implMulAdd_1 21 rfl rfl)
theorem dJ22_implMulAdd_48 : decode cJ22_implMulAdd 48 = .ok (.land, 1) := dk_127 (dk_at dksJ22_implMulAdd_2 0 rfl rfl)
theorem dJ22_implMulAdd_49 : decode cJ22_implMulAdd 49 = .ok (.ladd, 1) := dk_97 (dk_at dksJ22_implMulAdd_2 1 rfl rfl)
theorem dJ22_implMulAdd_50 : decode cJ22_implMulAdd 50 = .ok (.lload 7, 2) := dk_22 7 (dk_at dksJ22_implMulAdd_2 2 rfl rfl)
theorem dJ22_implMulAdd_52 : decode cJ22_implMulAdd 52 = .ok (.ladd, 1) := dk_97 (dk_at dksJ22_implMulAdd_2 4 rfl rfl)
theorem dJ22_implMulAdd_53 : decode cJ22_implMulAdd 53 = .ok (.lstore 10, 2) := dk_55 10 (dk_at dksJ22_implMulAdd_2 5 rfl rfl)
theorem dJ22_implMulAdd_55 : decode cJ22_implMulAdd 55 = .ok (.aload_n 0, 1) := dk_42 (dk_at dksJ22_implMulAdd_2 7 rfl rfl)
theorem dJ22_implMulAdd_56 : decode cJ22_implMulAdd 56 = .ok (.iload_n 2, 1) := dk_28 (dk_at dksJ22_implMulAdd_2 8 rfl rfl)
theorem dJ22_implMulAdd_57 : decode cJ22_implMulAdd 57 = .ok (.iinc 2 (-1), 3) := dk_132 2 255 (dk_at dksJ22_implMulAdd_2 9 rfl rfl)
theorem dJ22_implMulAdd_60 : decode cJ22_implMulAdd 60 = .ok (.lload 10, 2) := dk_22 10 (dk_at dksJ22_implMulAdd_2 12 rfl rfl)
theorem dJ22_implMulAdd_62 : decode cJ22_implMulAdd 62 = .ok (.l2i, 1) := dk_136 (dk_at dksJ22_implMulAdd_2 14 rfl rfl)
theorem dJ22_implMulAdd_63 : decode cJ22_implMulAdd 63 = .ok (.iastore, 1) := dk_79 (dk_at dksJ22_implMulAdd_2 15 rfl rfl)
theorem dJ22_implMulAdd_64 : decode cJ22_implMulAdd 64 = .ok (.lload 10, 2) := dk_22 10 (dk_at dksJ22_implMulAdd_2 16 rfl rfl)
theorem dJ22_implMulAdd_66 : decode cJ22_implMulAdd 66 = .ok (.bipush 32, 2) := dk_16 32 (dk_at dksJ22_implMulAdd_2 18 rfl rfl)
theorem dJ22_implMulAdd_68 : decode cJ22_implMulAdd 68 = .ok (.lushr, 1) := dk_125 (dk_at dksJ22_implMulAdd_2 20 rfl rfl)
theorem dJ22_implMulAdd_69 : decode cJ22_implMulAdd 69 = .ok (.lstore 7, 2) := dk_55 7 (dk_at dksJ22_implMulAdd_2 21 rfl rfl)
theorem dJ22_implMulAdd_71 : decode cJ22_implMulAdd 71 = .ok (.iinc 9 (-1), 3) := dk_132 9 255 (dk_at dksJ22_implMulAdd_3 0 rfl rfl)
theorem dJ22_implMulAdd_74 : decode cJ22_implMulAdd 74 = .ok (.goto (-50), 3) := dk_167 255 206 (dk_at dksJ22_implMulAdd_3 3 rfl rfl)
theorem dJ22_implMulAdd_77 : decode cJ22_implMulAdd 77 = .ok (.lload 7, 2) := dk_22 7 (dk_at dksJ22_implMulAdd_3 6 rfl rfl)
theorem dJ22_implMulAdd_79 : decode cJ22_implMulAdd 79 = .ok (.l2i, 1) := dk_136 (dk_at dksJ22_implMulAdd_3 8 rfl rfl)
theorem dJ22_implMulAdd_80 : decode cJ22_implMulAdd 80 = .ok (.ireturn, 1) := dk_172 (dk_at dksJ22_implMulAdd_3 9 rfl rfl)
def dkwJ22_mulAdd_0 : List UInt8 := [42, 43, 28, 29, 21, 4, 184, 2, 195, 42, 43, 28, 29, 21, 4, 184, 2, 198, 172]
abbrev dktJ22_mulAdd_0 : List UInt8 := dkwJ22_mulAdd_0 ++ []
theorem dksJ22_mulAdd_0 : cJ22_mulAdd.data.toList.drop 0 = dktJ22_mulAdd_0 := by decide +kernel
theorem dJ22_mulAdd_0 : decode cJ22_mulAdd 0 = .ok (.aload_n 0, 1) := dk_42 (dk_at dksJ22_mulAdd_0 0 rfl rfl)
theorem dJ22_mulAdd_1 : decode cJ22_mulAdd 1 = .ok (.aload_n 1, 1) := dk_43 (dk_at dksJ22_mulAdd_0 1 rfl rfl)
theorem dJ22_mulAdd_2 : decode cJ22_mulAdd 2 = .ok (.iload_n 2, 1) := dk_28 (dk_at dksJ22_mulAdd_0 2 rfl rfl)
theorem dJ22_mulAdd_3 : decode cJ22_mulAdd 3 = .ok (.iload_n 3, 1) := dk_29 (dk_at dksJ22_mulAdd_0 3 rfl rfl)
theorem dJ22_mulAdd_4 : decode cJ22_mulAdd 4 = .ok (.iload 4, 2) := dk_21 4 (dk_at dksJ22_mulAdd_0 4 rfl rfl)
theorem dJ22_mulAdd_6 : decode cJ22_mulAdd 6 = .ok (.invokestatic 707, 3) := dk_184 2 195 (dk_at dksJ22_mulAdd_0 6 rfl rfl)
theorem dJ22_mulAdd_9 : decode cJ22_mulAdd 9 = .ok (.aload_n 0, 1) := dk_42 (dk_at dksJ22_mulAdd_0 9 rfl rfl)
theorem dJ22_mulAdd_10 : decode cJ22_mulAdd 10 = .ok (.aload_n 1, 1) := dk_43 (dk_at dksJ22_mulAdd_0 10 rfl rfl)
theorem dJ22_mulAdd_11 : decode cJ22_mulAdd 11 = .ok (.iload_n 2, 1) := dk_28 (dk_at dksJ22_mulAdd_0 11 rfl rfl)
theorem dJ22_mulAdd_12 : decode cJ22_mulAdd 12 = .ok (.iload_n 3, 1) := dk_29 (dk_at dksJ22_mulAdd_0 12 rfl rfl)
theorem dJ22_mulAdd_13 : decode cJ22_mulAdd 13 = .ok (.iload 4, 2) := dk_21 4 (dk_at dksJ22_mulAdd_0 13 rfl rfl)
theorem dJ22_mulAdd_15 : decode cJ22_mulAdd 15 = .ok (.invokestatic 710, 3) := dk_184 2 198 (dk_at dksJ22_mulAdd_0 15 rfl rfl)
theorem dJ22_mulAdd_18 : decode cJ22_mulAdd 18 = .ok (.ireturn, 1) := dk_172 (dk_at dksJ22_mulAdd_0 18 rfl rfl)
def dkwJ22_addOne_3 : List UInt8 := [153, 255, 230, 3, 172, 4, 172]
abbrev dktJ22_addOne_3 : List UInt8 := dkwJ22_addOne_3 ++ []
def dkwJ22_addOne_2 : List UInt8 := [155, 0, 27, 132, 1, 255, 27, 156, 0, 5, 4, 172, 42, 27, 92, 46, 4, 96, 79, 42, 27, 46]
abbrev dktJ22_addOne_2 : List UInt8 := dkwJ22_addOne_2 ++ dktJ22_addOne_3
def dkwJ22_addOne_1 : List UInt8 := [55, 4, 42, 27, 22, 4, 136, 79, 22, 4, 16, 32, 125, 9, 148, 154, 0, 5, 3, 172, 132, 2, 255, 28]
abbrev dktJ22_addOne_1 : List UInt8 := dkwJ22_addOne_1 ++ dktJ22_addOne_2
def dkwJ22_addOne_0 : List UInt8 := [42, 190, 4, 100, 28, 100, 27, 100, 60, 42, 27, 46, 133, 20, 0, 130, 127, 29, 133, 20, 0, 130, 127, 97]
abbrev dktJ22_addOne_0 : List UInt8 := dkwJ22_addOne_0 ++ dktJ22_addOne_1
theorem dksJ22_addOne_0 : cJ22_addOne.data.toList.drop 0 = dktJ22_addOne_0 := by decide +kernel
theorem dksJ22_addOne_1 : cJ22_addOne.data.toList.drop 24 = dktJ22_addOne_1 := dk_seg dksJ22_addOne_0 24 rfl rfl
theorem dksJ22_addOne_2 : cJ22_addOne.data.toList.drop 48 = dktJ22_addOne_2 := dk_seg dksJ22_addOne_1 24 rfl rfl
theorem dksJ22_addOne_3 : cJ22_addOne.data.toList.drop 70 = dktJ22_addOne_3 := dk_seg dksJ22_addOne_2 22 rfl rfl
theorem dJ22_addOne_0 : decode cJ22_addOne 0 = .ok (.aload_n 0, 1) := dk_42 (dk_at dksJ22_addOne_0 0 rfl rfl)
theorem dJ22_addOne_1 : decode cJ22_addOne 1 = .ok (.arraylength, 1) := dk_190 (dk_at dksJ22_addOne_0 1 rfl rfl)
theorem dJ22_addOne_2 : decode cJ22_addOne 2 = .ok (.iconst 1, 1) := dk_4 (dk_at dksJ22_addOne_0 2 rfl rfl)
theorem dJ22_addOne_3 : decode cJ22_addOne 3 = .ok (.isub, 1) := dk_100 (dk_at dksJ22_addOne_0 3 rfl rfl)
theorem dJ22_addOne_4 : decode cJ22_addOne 4 = .ok (.iload_n 2, 1) := dk_28 (dk_at dksJ22_addOne_0 4 rfl rfl)
theorem dJ22_addOne_5 : decode cJ22_addOne 5 = .ok (.isub, 1) := dk_100 (dk_at dksJ22_addOne_0 5 rfl rfl)
theorem dJ22_addOne_6 : decode cJ22_addOne 6 = .ok (.iload_n 1, 1) := dk_27 (dk_at dksJ22_addOne_0 6 rfl rfl)
theorem dJ22_addOne_7 : decode cJ22_addOne 7 = .ok (.isub, 1) := dk_100 (dk_at dksJ22_addOne_0 7 rfl rfl)
theorem dJ22_addOne_8 : decode cJ22_addOne 8 = .ok (.istore_n 1, 1) := dk_60 (dk_at dksJ22_addOne_0 8 rfl rfl)
theorem dJ22_addOne_9 : decode cJ22_addOne 9 = .ok (.aload_n 0, 1) := dk_42 (dk_at dksJ22_addOne_0 9 rfl rfl)
theorem dJ22_addOne_10 : decode cJ22_addOne 10 = .ok (.iload_n 1, 1) := dk_27 (dk_at dksJ22_addOne_0 10 rfl rfl)
theorem dJ22_addOne_11 : decode cJ22_addOne 11 = .ok (.iaload, 1) := dk_46 (dk_at dksJ22_addOne_0 11 rfl rfl)
theorem dJ22_addOne_12 : decode cJ22_addOne 12 = .ok (.i2l, 1) := dk_133 (dk_at dksJ22_addOne_0 12 rfl rfl)
theorem dJ22_addOne_13 : decode cJ22_addOne 13 = .ok (.ldc2_w 130, 3) := dk_20 0 130 (dk_at dksJ22_addOne_0 13 rfl rfl)
theorem dJ22_addOne_16 : decode cJ22_addOne 16 = .ok (.land, 1) := dk_127 (dk_at dksJ22_addOne_0 16 rfl rfl)
theorem dJ22_addOne_17 : decode cJ22_addOne 17 = .ok (.iload_n 3, 1) := dk_29 (dk_at dksJ22_addOne_0 17 rfl rfl)
theorem dJ22_addOne_18 : decode cJ22_addOne 18 = .ok (.i2l, 1) := dk_133 (dk_at dksJ22_addOne_0 18 rfl rfl)
theorem dJ22_addOne_19 : decode cJ22_addOne 19 = .ok (.ldc2_w 130, 3) := dk_20 0 130 (dk_at dksJ22_addOne_0 19 rfl rfl)
theorem dJ22_addOne_22 : decode cJ22_addOne 22 = .ok (.land, 1) := dk_127 (dk_at dksJ22_addOne_0 22 rfl rfl)
theorem dJ22_addOne_23 : decode cJ22_addOne 23 = .ok (.ladd, 1) := dk_97 (dk_at dksJ22_addOne_0 23 rfl rfl)
theorem dJ22_addOne_24 : decode cJ22_addOne 24 = .ok (.lstore 4, 2) := dk_55 4 (dk_at dksJ22_addOne_1 0 rfl rfl)
theorem dJ22_addOne_26 : decode cJ22_addOne 26 = .ok (.aload_n 0, 1) := dk_42 (dk_at dksJ22_addOne_1 2 rfl rfl)
theorem dJ22_addOne_27 : decode cJ22_addOne 27 = .ok (.iload_n 1, 1) := dk_27 (dk_at dksJ22_addOne_1 3 rfl rfl)
theorem dJ22_addOne_28 : decode cJ22_addOne 28 = .ok (.lload 4, 2) := dk_22 4 (dk_at dksJ22_addOne_1 4 rfl rfl)
theorem dJ22_addOne_30 : decode cJ22_addOne 30 = .ok (.l2i, 1) := dk_136 (dk_at dksJ22_addOne_1 6 rfl rfl)
theorem dJ22_addOne_31 : decode cJ22_addOne 31 = .ok (.iastore, 1) := dk_79 (dk_at dksJ22_addOne_1 7 rfl rfl)
theorem dJ22_addOne_32 : decode cJ22_addOne 32 = .ok (.lload 4, 2) := dk_22 4 (dk_at dksJ22_addOne_1 8 rfl rfl)
theorem dJ22_addOne_34 : decode cJ22_addOne 34 = .ok (.bipush 32, 2) := dk_16 32 (dk_at dksJ22_addOne_1 10 rfl rfl)
theorem dJ22_addOne_36 : decode cJ22_addOne 36 = .ok (.lushr, 1) := dk_125 (dk_at dksJ22_addOne_1 12 rfl rfl)
theorem dJ22_addOne_37 : decode cJ22_addOne 37 = .ok (.lconst 0, 1) := dk_9 (dk_at dksJ22_addOne_1 13 rfl rfl)
theorem dJ22_addOne_38 : decode cJ22_addOne 38 = .ok (.lcmp, 1) := dk_148 (dk_at dksJ22_addOne_1 14 rfl rfl)
theorem dJ22_addOne_39 : decode cJ22_addOne 39 = .ok (.ifCond .ne 5, 3) := dk_154 0 5 (dk_at dksJ22_addOne_1 15 rfl rfl)
theorem dJ22_addOne_42 : decode cJ22_addOne 42 = .ok (.iconst 0, 1) := dk_3 (dk_at dksJ22_addOne_1 18 rfl rfl)
theorem dJ22_addOne_43 : decode cJ22_addOne 43 = .ok (.ireturn, 1) := dk_172 (dk_at dksJ22_addOne_1 19 rfl rfl)
theorem dJ22_addOne_44 : decode cJ22_addOne 44 = .ok (.iinc 2 (-1), 3) := dk_132 2 255 (dk_at dksJ22_addOne_1 20 rfl rfl)
theorem dJ22_addOne_47 : decode cJ22_addOne 47 = .ok (.iload_n 2, 1) := dk_28 (dk_at dksJ22_addOne_1 23 rfl rfl)
theorem dJ22_addOne_48 : decode cJ22_addOne 48 = .ok (.ifCond .lt 27, 3) := dk_155 0 27 (dk_at dksJ22_addOne_2 0 rfl rfl)
theorem dJ22_addOne_51 : decode cJ22_addOne 51 = .ok (.iinc 1 (-1), 3) := dk_132 1 255 (dk_at dksJ22_addOne_2 3 rfl rfl)
theorem dJ22_addOne_54 : decode cJ22_addOne 54 = .ok (.iload_n 1, 1) := dk_27 (dk_at dksJ22_addOne_2 6 rfl rfl)
theorem dJ22_addOne_55 : decode cJ22_addOne 55 = .ok (.ifCond .ge 5, 3) := dk_156 0 5 (dk_at dksJ22_addOne_2 7 rfl rfl)
theorem dJ22_addOne_58 : decode cJ22_addOne 58 = .ok (.iconst 1, 1) := dk_4 (dk_at dksJ22_addOne_2 10 rfl rfl)
theorem dJ22_addOne_59 : decode cJ22_addOne 59 = .ok (.ireturn, 1) := dk_172 (dk_at dksJ22_addOne_2 11 rfl rfl)
theorem dJ22_addOne_60 : decode cJ22_addOne 60 = .ok (.aload_n 0, 1) := dk_42 (dk_at dksJ22_addOne_2 12 rfl rfl)
theorem dJ22_addOne_61 : decode cJ22_addOne 61 = .ok (.iload_n 1, 1) := dk_27 (dk_at dksJ22_addOne_2 13 rfl rfl)
theorem dJ22_addOne_62 : decode cJ22_addOne 62 = .ok (.dup2, 1) := dk_92 (dk_at dksJ22_addOne_2 14 rfl rfl)
theorem dJ22_addOne_63 : decode cJ22_addOne 63 = .ok (.iaload, 1) := dk_46 (dk_at dksJ22_addOne_2 15 rfl rfl)
theorem dJ22_addOne_64 : decode cJ22_addOne 64 = .ok (.iconst 1, 1) := dk_4 (dk_at dksJ22_addOne_2 16 rfl rfl)
theorem dJ22_addOne_65 : decode cJ22_addOne 65 = .ok (.iadd, 1) := dk_96 (dk_at dksJ22_addOne_2 17 rfl rfl)
theorem dJ22_addOne_66 : decode cJ22_addOne 66 = .ok (.iastore, 1) := dk_79 (dk_at dksJ22_addOne_2 18 rfl rfl)
theorem dJ22_addOne_67 : decode cJ22_addOne 67 = .ok (.aload_n 0, 1) := dk_42 (dk_at dksJ22_addOne_2 19 rfl rfl)
theorem dJ22_addOne_68 : decode cJ22_addOne 68 = .ok (.iload_n 1, 1) := dk_27 (dk_at dksJ22_addOne_2 20 rfl rfl)
theorem dJ22_addOne_69 : decode cJ22_addOne 69 = .ok (.iaload, 1) := dk_46 (dk_at dksJ22_addOne_2 21 rfl rfl)
theorem dJ22_addOne_70 : decode cJ22_addOne 70 = .ok (.ifCond .eq (-26), 3) := dk_153 255 230 (dk_at dksJ22_addOne_3 0 rfl rfl)
theorem dJ22_addOne_73 : decode cJ22_addOne 73 = .ok (.iconst 0, 1) := dk_3 (dk_at dksJ22_addOne_3 3 rfl rfl)
theorem dJ22_addOne_74 : decode cJ22_addOne 74 = .ok (.ireturn, 1) := dk_172 (dk_at dksJ22_addOne_3 4 rfl rfl)
theorem dJ22_addOne_75 : decode cJ22_addOne 75 = .ok (.iconst 1, 1) := dk_4 (dk_at dksJ22_addOne_3 5 rfl rfl)
theorem dJ22_addOne_76 : decode cJ22_addOne 76 = .ok (.ireturn, 1) := dk_172 (dk_at dksJ22_addOne_3 6 rfl rfl)
theorem yd_J22_implMulAdd : yJ22_implMulAdd.cls ≠ "java/lang/invoke/MethodHandle" ∧ yJ22_implMulAdd.cls ≠ "java/lang/invoke/VarHandle" ∧ (parseMethodDescriptor yJ22_implMulAdd.desc).map (fun d => d.parameters.length) = some 5 := by decide +kernel
theorem yd_J22_implMulAddCheck : yJ22_implMulAddCheck.cls ≠ "java/lang/invoke/MethodHandle" ∧ yJ22_implMulAddCheck.cls ≠ "java/lang/invoke/VarHandle" ∧ (parseMethodDescriptor yJ22_implMulAddCheck.desc).map (fun d => d.parameters.length) = some 5 := by decide +kernel
/-! ### squares: their parts -/
/-- digits moved up in their own place: the first t of them -/
def wi (d : Nat → Nat) (s t : Nat) : Nat → Nat := fun i => if i < t then (d i * 2 ^ s) % 4294967296 + d (i + 1) / 2 ^ (32 - s) else d i
theorem wi_s {d : Nat → Nat} (hd : ∀ i, d i < 4294967296) {s t : Nat} (hs : s < 32) (hs0 : 0 < s) : dup (wi d s t) t (((d t * 2 ^ s) % 4294967296 + d (t + 1) / 2 ^ (32 - s)) % 4294967296) = wi d s (t + 1) := by
  funext i
  rw [Nat.mod_eq_of_lt (sh_dig hs hs0 (hd (t + 1))).2.2]
  unfold dup wi
  by_cases h : i = t
  · subst h
    rw [if_pos rfl, if_pos (by omega)]
  · rw [if_neg h]
    by_cases h2 : i < t
    · rw [if_pos h2, if_pos (by omega)]
    · rw [if_neg h2, if_neg (by omega)]
theorem wi_lt {d : Nat → Nat} (hd : ∀ i, d i < 4294967296) {s t : Nat} (hs : s < 32) (hs0 : 0 < s) : ∀ i, wi d s t i < 4294967296 := by
  intro i
  unfold wi
  split
  · exact (sh_dig hs hs0 (hd _)).2.2
  · exact hd i
theorem wi_ge {d : Nat → Nat} {s t i : Nat} (h : t ≤ i) : wi d s t i = d i := if_neg (by omega)
theorem wi_end {d : Nat → Nat} {s n : Nat} (hn : 0 < n) : seg (dup (wi d s (n - 1)) (n - 1) ((d (n - 1) * 2 ^ s) % 4294967296)) 0 n = seg (shl d s n) 0 n := by
  unfold seg
  refine val_cg fun i hi => ?_
  unfold dup wi shl
  rw [Nat.zero_add]
  by_cases h : i = n - 1
  · subst h
    rw [if_pos rfl, if_neg (by omega)]
    omega
  · rw [if_neg h, if_pos (by omega), if_pos (by omega)]
theorem seg_dup {g : Nat → Nat} {n u x : Nat} (hu : u < n) : seg (dup g u x) 0 n + g u * 4294967296 ^ (n - 1 - u) = seg g 0 n + x * 4294967296 ^ (n - 1 - u) := by
  obtain ⟨t, rfl⟩ : ∃ t, n = u + (t + 1) := ⟨n - 1 - u, by omega⟩
  rw [seg_app (dup g u x) 0 u (t + 1), seg_app g 0 u (t + 1), Nat.zero_add, seg_l (dup g u x) u t, seg_l g u t, dup_s, seg_cg (d := dup g u x) (e := g) (o := 0) (t := u) (fun i h1 h2 => dup_n (by omega)), seg_cg (d := dup g u x) (e := g) (o := u + 1) (t := t) (fun i h1 h2 => dup_n (by omega)), show u + (t + 1) - 1 - u = t by omega]
  grind
/-- one more at a digit, with its rest to the next -/
theorem inc_dig {g : Nat → Nat} {n u S : Nat} (hu : 1 ≤ u) (hun : u ≤ n) (hg : g (u - 1) < 4294967296) (h : seg g 0 n + 4294967296 ^ (n - u) = S) :
    ((g (u - 1) + 1) % 4294967296 = 0 → seg (dup g (u - 1) ((g (u - 1) + 1) % 4294967296)) 0 n + 4294967296 ^ (n - (u - 1)) = S) ∧ ((g (u - 1) + 1) % 4294967296 ≠ 0 → seg (dup g (u - 1) ((g (u - 1) + 1) % 4294967296)) 0 n = S) := by
  have q := seg_dup (g := g) (n := n) (u := u - 1) (x := (g (u - 1) + 1) % 4294967296) (by omega)
  rw [show n - 1 - (u - 1) = n - u by omega] at q
  refine ⟨fun h2 => ?_, fun h2 => ?_⟩
  · rw [h2] at q ⊢
    have e1 : g (u - 1) = 4294967295 := by omega
    rw [e1] at q
    rw [show n - (u - 1) = n - u + 1 by omega, Nat.pow_succ]
    generalize seg (dup g (u - 1) 0) 0 n = X at *
    generalize seg g 0 n = G at *
    generalize 4294967296 ^ (n - u) = P at *
    omega
  · rw [Nat.mod_eq_of_lt (show g (u - 1) + 1 < 4294967296 by omega)] at q ⊢
    generalize seg (dup g (u - 1) (g (u - 1) + 1)) 0 n = X at *
    generalize seg g 0 n = G at *
    generalize 4294967296 ^ (n - u) = P at *
    grind

set_option maxHeartbeats 1000000 in
theorem m_mulAddChk (l : Launch) (z : State) (H0 : Heap) (zr : Nat) (x : Nat) (L o n K nx : Nat) (w : Bool) (g d : Nat → Nat) (hzx : zr ≠ x) (hL : L < 1000000) (hnx9 : nx < 1000000) (hon : o + n ≤ L) (hoL : o < L) (hnx : n ≤ nx) (hK : K < 4294967296) (hg : ∀ i, g i < 4294967296) (hd : ∀ i, d i < 4294967296) (hZ : gI z true .int H0 zr L (dI g)) (hX : gI z w .int H0 x nx (dI d)) : Met l yJ22_implMulAddCheck (ws_ yJ22_implMulAddCheck cJ22_implMulAddCheck 5 (none)) { frames := 0, cells := 0, slots := 0, locals := 0 } (gPc z H0 [.ref zr, .ref x, .int (nI o), .int (nI n), .int (nI K)]) (gPv H0 (True)) 0 0 gno := by
  refine g_start (by decide +kernel) (Nat.le_of_ble_eq_true rfl) ?_
  intro p e s m below meth c ls hx hb hr hlocks hml hown hname hts hwm hl
  have hown : s.vm.findClass "java/math/BigInteger" = some m.cls := hown
  have hal : z.vm.Alike s.vm := hwm.alike
  have hCF : CallFix p m c cJ22_implMulAddCheck 5 s [.ref zr, .ref x, .int (nI o), .int (nI n), .int (nI K)].toArray lw_all "java/math/BigInteger" := ⟨hx, hb, hml, hown, hts⟩
  have hl : lv_has ls 5 [(0, .ref zr), (1, .ref x), (2, .int (nI o)), (3, .int (nI n)), (4, .int (nI K))] := hl
  refine lv_iload_n hx hb dJ22_implMulAddCheck_0 rfl (lv_at hl 3 rfl) ?_
  refine lv_aload_n hx hb dJ22_implMulAddCheck_1 rfl (lv_at hl 1 rfl) ?_
  refine gw_len hx hb hal hX dJ22_implMulAddCheck_2 ?_
  refine lv_icmp_le (tgt := 45) hx hb dJ22_implMulAddCheck_3 (by decide) (fun c_3 => ?_) (fun c_3 => False.elim (by
    have c_3 := mt (ai_le (a := n) (b := nx) (rfl) (rfl) (by omega) (by omega)).mpr c_3
    omega))
  have c_3 := (ai_le (a := n) (b := nx) (rfl) (rfl) (by omega) (by omega)).mp c_3
  refine lv_iload_n hx hb dJ22_implMulAddCheck_45 rfl (lv_at hl 2 rfl) ?_
  refine lv_if_ge (tgt := 77) hx hb dJ22_implMulAddCheck_46 (by decide) (fun c_46 => ?_) (fun c_46 => False.elim (by
    have c_46 := mt (ai_le (a := 0) (b := o) (rfl) (rfl) (by omega) (by omega)).mpr c_46
    omega))
  have c_46 := (ai_le (a := 0) (b := o) (rfl) (rfl) (by omega) (by omega)).mp c_46
  refine lv_iload_n hx hb dJ22_implMulAddCheck_77 rfl (lv_at hl 2 rfl) ?_
  refine lv_aload_n hx hb dJ22_implMulAddCheck_78 rfl (lv_at hl 0 rfl) ?_
  refine gw_len hx hb hal hZ dJ22_implMulAddCheck_79 ?_
  refine lv_iconst (v := 1) hx hb dJ22_implMulAddCheck_80 (by decide) ?_
  refine lv_isub hx hb dJ22_implMulAddCheck_81 ?_
  refine g_topi (v := nI (L - 1)) (ai_sub (a := L) (b := 1) (rfl) (rfl) (by omega)) ?_
  refine lv_icmp_le (tgt := 126) hx hb dJ22_implMulAddCheck_82 (by decide) (fun c_82 => ?_) (fun c_82 => False.elim (by
    have c_82 := mt (ai_le (a := o) (b := (L - 1)) (rfl) (rfl) (by omega) (by omega)).mpr c_82
    omega))
  have c_82 := (ai_le (a := o) (b := (L - 1)) (rfl) (rfl) (by omega) (by omega)).mp c_82
  refine lv_iload_n hx hb dJ22_implMulAddCheck_126 rfl (lv_at hl 3 rfl) ?_
  refine lv_aload_n hx hb dJ22_implMulAddCheck_127 rfl (lv_at hl 0 rfl) ?_
  refine gw_len hx hb hal hZ dJ22_implMulAddCheck_128 ?_
  refine lv_iload_n hx hb dJ22_implMulAddCheck_129 rfl (lv_at hl 2 rfl) ?_
  refine lv_isub hx hb dJ22_implMulAddCheck_130 ?_
  refine g_topi (v := nI (L - o)) (ai_sub (a := L) (b := o) (rfl) (rfl) (by omega)) ?_
  refine lv_icmp_le (tgt := 175) hx hb dJ22_implMulAddCheck_131 (by decide) (fun c_131 => ?_) (fun c_131 => False.elim (by
    have c_131 := mt (ai_le (a := n) (b := (L - o)) (rfl) (rfl) (by omega) (by omega)).mpr c_131
    omega))
  have c_131 := (ai_le (a := n) (b := (L - o)) (rfl) (rfl) (by omega) (by omega)).mp c_131
  refine g_vretP hx hb hr hlocks ?_ dJ22_implMulAddCheck_175
  trivial
set_option maxHeartbeats 1000000 in
theorem m_mulAdd6 (l : Launch) (z : State) (H0 : Heap) (zr : Nat) (x : Nat) (L o n K nx : Nat) (w : Bool) (g d : Nat → Nat) (hzx : zr ≠ x) (hL : L < 1000000) (hnx9 : nx < 1000000) (hon : o + n ≤ L) (hoL : o < L) (hnx : n ≤ nx) (hK : K < 4294967296) (hg : ∀ i, g i < 4294967296) (hd : ∀ i, d i < 4294967296) (hZ : gI z true .int H0 zr L (dI g)) (hX : gI z w .int H0 x nx (dI d)) : Met l yJ22_implMulAdd (ws_ yJ22_implMulAdd cJ22_implMulAdd 12 (some .int)) { frames := 0, cells := 0, slots := 0, locals := 0 } (gPc z H0 [.ref zr, .ref x, .int (nI o), .int (nI n), .int (nI K)]) (gRi (fun q => q = zr) H0 (fun r H1 => ∃ kk gg, r = nI kk ∧ kk < 4294967296 ∧ (∀ i, gg i < 4294967296) ∧ (∀ i, (i < L - o - n ∨ L - o ≤ i) → gg i = g i) ∧ seg gg (L - o - n) n + kk * 4294967296 ^ n = seg g (L - o - n) n + K * seg d 0 n ∧ gI z true .int H1 zr L (dI gg))) 0 0 (fun q => q = zr) := by
  refine g_start (by decide +kernel) (Nat.le_of_ble_eq_true rfl) ?_
  intro p e s m below meth c ls hx hb hr hlocks hml hown hname hts hwm hl
  have hown : s.vm.findClass "java/math/BigInteger" = some m.cls := hown
  have hal : z.vm.Alike s.vm := hwm.alike
  have hCF : CallFix p m c cJ22_implMulAdd 12 s [.ref zr, .ref x, .int (nI o), .int (nI n), .int (nI K)].toArray lw_all "java/math/BigInteger" := ⟨hx, hb, hml, hown, hts⟩
  have hl : lv_has ls 12 [(0, .ref zr), (1, .ref x), (2, .int (nI o)), (3, .int (nI n)), (4, .int (nI K))] := hl
  have hS : va_S (fun q => q = zr) H0 H0 [] := va_S.rf
  obtain ⟨bb, hbb⟩ : ∃ bb, bb = L - o - n := ⟨_, rfl⟩
  have lt_zr := hZ.lt
  have lt_x := hX.lt
  refine lv_iload hx hb dJ22_implMulAdd_0 (lv_at hl 4 rfl) ?_
  refine lv_i2l hx hb dJ22_implMulAdd_2 rfl ?_
  refine lv_ldc2 (v := 4294967295) hx hb hown (hts _ q1228) dJ22_implMulAdd_3 ?_
  refine lv_land hx hb dJ22_implMulAdd_6 ?_
  refine g_topl (v := lN K) (mk32 (a := K) (rfl) (hK)) ?_
  refine lv_lstore hx hb dJ22_implMulAdd_7 hl (by decide) rfl (fun ls hl => ?_)
  have hl : lv_has ls 12 [(5, .long (lN K)), (0, .ref zr), (1, .ref x), (2, .int (nI o)), (3, .int (nI n)), (4, .int (nI K))] := hl
  refine lv_lconst (v := 0) hx hb dJ22_implMulAdd_9 (by decide) ?_
  refine lv_lstore hx hb dJ22_implMulAdd_10 hl (by decide) rfl (fun ls hl => ?_)
  have hl : lv_has ls 12 [(7, .long 0), (5, .long (lN K)), (0, .ref zr), (1, .ref x), (2, .int (nI o)), (3, .int (nI n)), (4, .int (nI K))] := hl
  refine lv_aload_n hx hb dJ22_implMulAdd_12 rfl (lv_at hl 2 rfl) ?_
  refine gw_len hx hb hal hZ dJ22_implMulAdd_13 ?_
  refine lv_iload_n hx hb dJ22_implMulAdd_14 rfl (lv_at hl 4 rfl) ?_
  refine lv_isub hx hb dJ22_implMulAdd_15 ?_
  refine g_topi (v := iI ((L : Nat) - (o : Nat))) (ai_subI (a := (L : Nat)) (b := (o : Nat)) (nI_iI _) (nI_iI _)) ?_
  refine lv_iconst (v := 1) hx hb dJ22_implMulAdd_16 (by decide) ?_
  refine lv_isub hx hb dJ22_implMulAdd_17 ?_
  refine g_topi (v := (iI (((bb + n : Nat) : Int) - 1))) ?_ ?_
  · skip
    rw [show (1 : Int32) = iI 1 from rfl, iI_sub]
    exact congrArg iI (by omega)
  refine lv_istore_n hx hb dJ22_implMulAdd_18 rfl hl (by decide) rfl (fun ls hl => ?_)
  have hl : lv_has ls 12 [(2, .int (iI (((bb + n : Nat) : Int) - 1))), (7, .long 0), (5, .long (lN K)), (0, .ref zr), (1, .ref x), (3, .int (nI n)), (4, .int (nI K))] := hl
  refine lv_iload_n hx hb dJ22_implMulAdd_19 rfl (lv_at hl 5 rfl) ?_
  refine lv_iconst (v := 1) hx hb dJ22_implMulAdd_20 (by decide) ?_
  refine lv_isub hx hb dJ22_implMulAdd_21 ?_
  refine g_topi (v := iI ((n : Nat) - 1)) (ai_subI (a := (n : Nat)) (b := 1) (nI_iI _) (by decide)) ?_
  refine lv_istore hx hb dJ22_implMulAdd_22 hl (by decide) rfl (fun ls hl => ?_)
  have hl : lv_has ls 12 [(9, .int (iI ((n : Nat) - 1))), (2, .int (iI (((bb + n : Nat) : Int) - 1))), (7, .long 0), (5, .long (lN K)), (0, .ref zr), (1, .ref x), (3, .int (nI n)), (4, .int (nI K))] := hl
  replace hl : lv_has ls 12 [(9, .int (iI ((n : Int) - 1))), (2, .int (iI (((bb + n : Nat) : Int) - 1))), (7, .long (lN 0)), (5, .long (lN K)), (0, .ref zr), (1, .ref x), (3, .int (nI n)), (4, .int (nI K))] := by
    exact hl
  have loopA : ∀ (n_ : Nat) (t kk : Nat) (gg : Nat → Nat), (t ≤ n) → (kk < 4294967296) → (∀ i, gg i < 4294967296) → (∀ i, (i < bb + t ∨ bb + n ≤ i) → gg i = g i) → (seg gg (bb + t) (n - t) + kk * 4294967296 ^ (n - t) = seg g (bb + t) (n - t) + K * seg d t (n - t)) → (t) < n_ → ∀ (H_1 : Heap) (locs : List Loc), va_S (fun q => q = zr) H0 H_1 locs → gI z true .int H_1 zr L (dI gg) → gI z w .int H_1 x nx (dI d) → ∀ (ls : Array Slot), lv_has ls 12 [(9, .int (iI ((t : Int) - 1))), (2, .int (iI (((bb + t : Nat) : Int) - 1))), (7, .long (lN kk)), (5, .long (lN K)), (0, .ref zr), (1, .ref x), (3, .int (nI n)), (4, .int (nI K))] → W p l e { frames := 0, cells := 0, slots := 0, locals := 0 } s m [.ref zr, .ref x, .int (nI o), .int (nI n), .int (nI K)].toArray below meth c H_1 locs 0 0 (MQ below (gRi (fun q => q = zr) H0 (fun r H1 => ∃ kk gg, r = nI kk ∧ kk < 4294967296 ∧ (∀ i, gg i < 4294967296) ∧ (∀ i, (i < L - o - n ∨ L - o ≤ i) → gg i = g i) ∧ seg gg (L - o - n) n + kk * 4294967296 ^ n = seg g (L - o - n) n + K * seg d 0 n ∧ gI z true .int H1 zr L (dI gg))) [.ref zr, .ref x, .int (nI o), .int (nI n), .int (nI K)].toArray s 0 0 (fun q => q = zr)) (F0 m 24 ls []) := by
    intro n_
    induction n_ with
    | zero => intro t kk gg ht hkk hgg hgo hs hm_; exact absurd hm_ (Nat.not_lt_zero _)
    | succ n_ ih_loopA =>
      intro t kk gg ht hkk hgg hgo hs hm_ H_1 locs hS hZ hX ls hl
      refine lv_iload hx hb dJ22_implMulAdd_24 (lv_at hl 0 rfl) ?_
      refine lv_if_lt (tgt := 77) hx hb dJ22_implMulAdd_26 (by decide) (fun c_26 => ?_) (fun c_26 => ?_)
      · skip
        have c_26 := (ai_ltI (a := ((t : Int) - 1)) (b := 0) (rfl) (by decide) (by omega) (by omega) (by omega) (by omega)).mp c_26
        refine lv_lload hx hb dJ22_implMulAdd_77 (lv_at hl 2 rfl) ?_
        refine lv_l2i hx hb dJ22_implMulAdd_79 rfl ?_
        refine g_topi (v := nI kk) (ai_l2i (rfl)) ?_
        refine g_iret hx hb hr hlocks hS (Nat.le_of_ble_eq_true rfl) (Nat.le_of_ble_eq_true rfl) ?_ dJ22_implMulAdd_80
        have e0 : t = 0 := by omega
        subst e0
        rw [Nat.sub_zero, Nat.add_zero] at hs
        subst hbb
        exact ⟨kk, gg, rfl, hkk, hgg, fun i hi => hgo i (by omega), hs, hZ⟩
      · skip
        have c_26 := mt (ai_ltI (a := ((t : Int) - 1)) (b := 0) (rfl) (by decide) (by omega) (by omega) (by omega) (by omega)).mpr c_26
        replace hl : lv_has ls 12 [(9, .int (nI (t - 1))), (2, .int (iI (((bb + t : Nat) : Int) - 1))), (7, .long (lN kk)), (5, .long (lN K)), (0, .ref zr), (1, .ref x), (3, .int (nI n)), (4, .int (nI K))] := by
          rw [show nI (t - 1) = iI ((t : Int) - 1) by rw [nI_iI]; exact congrArg iI (by omega)]
          exact hl
        replace hl : lv_has ls 12 [(9, .int (nI (t - 1))), (2, .int (nI (bb + t - 1))), (7, .long (lN kk)), (5, .long (lN K)), (0, .ref zr), (1, .ref x), (3, .int (nI n)), (4, .int (nI K))] := by
          rw [show nI (bb + t - 1) = iI (((bb + t : Nat) : Int) - 1) by rw [nI_iI]; exact congrArg iI (by omega)]
          exact hl
        refine lv_aload_n hx hb dJ22_implMulAdd_29 rfl (lv_at hl 5 rfl) ?_
        refine lv_iload hx hb dJ22_implMulAdd_30 (lv_at hl 0 rfl) ?_
        refine gw_iald hx hb hal hX (t - 1) (rfl) (by omega) (by omega) dJ22_implMulAdd_32 ?_
        refine g_topi (v := (nI (d (t - 1)))) rfl ?_
        refine lv_i2l hx hb dJ22_implMulAdd_33 rfl ?_
        refine lv_ldc2 (v := 4294967295) hx hb hown (hts _ q1228) dJ22_implMulAdd_34 ?_
        refine lv_land hx hb dJ22_implMulAdd_37 ?_
        refine g_topl (v := lN (d (t - 1))) (mk32 (a := (d (t - 1))) (rfl) (hd _)) ?_
        refine lv_lload hx hb dJ22_implMulAdd_38 (lv_at hl 3 rfl) ?_
        refine lv_lmul hx hb dJ22_implMulAdd_40 ?_
        refine g_topl (v := lN ((d (t - 1)) * K)) (ai_mulL (a := (d (t - 1))) (b := K) (rfl) (rfl)) ?_
        refine lv_aload_n hx hb dJ22_implMulAdd_41 rfl (lv_at hl 4 rfl) ?_
        refine lv_iload_n hx hb dJ22_implMulAdd_42 rfl (lv_at hl 1 rfl) ?_
        refine gw_iald hx hb hal hZ (bb + t - 1) (rfl) (by omega) (by omega) dJ22_implMulAdd_43 ?_
        refine g_topi (v := (nI (gg (bb + t - 1)))) rfl ?_
        refine lv_i2l hx hb dJ22_implMulAdd_44 rfl ?_
        refine lv_ldc2 (v := 4294967295) hx hb hown (hts _ q1228) dJ22_implMulAdd_45 ?_
        refine lv_land hx hb dJ22_implMulAdd_48 ?_
        refine g_topl (v := lN (gg (bb + t - 1))) (mk32 (a := (gg (bb + t - 1))) (rfl) (hgg _)) ?_
        refine lv_ladd hx hb dJ22_implMulAdd_49 ?_
        refine g_topl (v := lN (((d (t - 1)) * K) + (gg (bb + t - 1)))) (ai_addL (a := ((d (t - 1)) * K)) (b := (gg (bb + t - 1))) (rfl) (rfl)) ?_
        refine lv_lload hx hb dJ22_implMulAdd_50 (lv_at hl 2 rfl) ?_
        refine lv_ladd hx hb dJ22_implMulAdd_52 ?_
        refine g_topl (v := lN ((((d (t - 1)) * K) + (gg (bb + t - 1))) + kk)) (ai_addL (a := (((d (t - 1)) * K) + (gg (bb + t - 1)))) (b := kk) (rfl) (rfl)) ?_
        obtain ⟨P, hP⟩ : ∃ P : Nat, P = ((((d (t - 1)) * K) + (gg (bb + t - 1))) + kk) := ⟨_, rfl⟩
        refine g_topl (v := lN P) (by rw [hP]) ?_
        have hP9 : P < 18446744073709551616 := by rw [hP]; exact mul_bd (hd (t - 1)) hK (hgg _) hkk
        refine lv_lstore hx hb dJ22_implMulAdd_53 hl (by decide) rfl (fun ls hl => ?_)
        have hl : lv_has ls 12 [(10, .long (lN P)), (9, .int (nI (t - 1))), (2, .int (nI (bb + t - 1))), (7, .long (lN kk)), (5, .long (lN K)), (0, .ref zr), (1, .ref x), (3, .int (nI n)), (4, .int (nI K))] := hl
        refine lv_aload_n hx hb dJ22_implMulAdd_55 rfl (lv_at hl 5 rfl) ?_
        refine lv_iload_n hx hb dJ22_implMulAdd_56 rfl (lv_at hl 2 rfl) ?_
        refine lv_iinc (k := 2) (v := (iI (((bb + t - 1 : Nat) : Int) - 1))) hx hb dJ22_implMulAdd_57 hl rfl (by rw [nI_iI, show Int32.ofInt (-1) = iI (-1) from rfl, iI_add]; exact congrArg iI (by omega)) (by decide) rfl (fun ls hl => ?_)
        have hl : lv_has ls 12 [(2, .int (iI (((bb + t - 1 : Nat) : Int) - 1))), (10, .long (lN P)), (9, .int (nI (t - 1))), (7, .long (lN kk)), (5, .long (lN K)), (0, .ref zr), (1, .ref x), (3, .int (nI n)), (4, .int (nI K))] := hl
        refine lv_lload hx hb dJ22_implMulAdd_60 (lv_at hl 1 rfl) ?_
        refine lv_l2i hx hb dJ22_implMulAdd_62 rfl ?_
        refine g_topi (v := nI P) (ai_l2i (rfl)) ?_
        refine gw_iast (f := (dI gg)) hx hb hal hZ hS (by have hsz := hS.1; (try dsimp only [gfr]) <;> omega) (bb + t - 1) (rfl) (by omega) (by omega) dJ22_implMulAdd_63 (fun H_2 locs h_new hch hS => ?_)
        have hX := hX.ch hch (by omega)
        have sz_H_2 := hch.1
        clear hch
        have hZ : gI z true .int H_2 zr L (upd (dI gg) (bb + t - 1) (nI P)) := h_new
        replace hZ : gI z true .int H_2 zr L (dI (dup gg (bb + t - 1) (P % 4294967296))) := by
          have q := hZ
          rw [dI_put] at q
          exact q
        have bd_3 : ∀ i, (dup gg (bb + t - 1) (P % 4294967296)) i < 4294967296 := dup_lt hgg (Nat.mod_lt _ (by decide))
        refine lv_lload hx hb dJ22_implMulAdd_64 (lv_at hl 1 rfl) ?_
        refine lv_bipush (v := 32) hx hb dJ22_implMulAdd_66 (by decide) ?_
        refine lv_lushr hx hb dJ22_implMulAdd_68 rfl ?_
        refine g_topl (v := lN (P / 4294967296)) (lN_shr32 (a := P) (hP9)) ?_
        refine lv_lstore hx hb dJ22_implMulAdd_69 hl (by decide) rfl (fun ls hl => ?_)
        have hl : lv_has ls 12 [(7, .long (lN (P / 4294967296))), (2, .int (iI (((bb + t - 1 : Nat) : Int) - 1))), (10, .long (lN P)), (9, .int (nI (t - 1))), (5, .long (lN K)), (0, .ref zr), (1, .ref x), (3, .int (nI n)), (4, .int (nI K))] := hl
        refine lv_iinc (k := 3) (v := (iI (((t - 1 : Nat) : Int) - 1))) hx hb dJ22_implMulAdd_71 hl rfl (by rw [nI_iI, show Int32.ofInt (-1) = iI (-1) from rfl, iI_add]; exact congrArg iI (by omega)) (by decide) rfl (fun ls hl => ?_)
        have hl : lv_has ls 12 [(9, .int (iI (((t - 1 : Nat) : Int) - 1))), (7, .long (lN (P / 4294967296))), (2, .int (iI (((bb + t - 1 : Nat) : Int) - 1))), (10, .long (lN P)), (5, .long (lN K)), (0, .ref zr), (1, .ref x), (3, .int (nI n)), (4, .int (nI K))] := hl
        refine lv_goto (tgt := 24) hx hb dJ22_implMulAdd_74 (by decide) ?_
        replace hl : lv_has ls 12 [(9, .int (iI (((t - 1 : Nat) : Int) - 1))), (7, .long (lN (P / 4294967296))), (2, .int (iI (((bb + (t - 1) : Nat) : Int) - 1))), (10, .long (lN P)), (5, .long (lN K)), (0, .ref zr), (1, .ref x), (3, .int (nI n)), (4, .int (nI K))] := by
          rw [show (((bb + (t - 1) : Nat) : Int) - 1) = (((bb + t - 1 : Nat) : Int) - 1) by omega]
          exact hl
        exact ih_loopA (t - 1) (P / 4294967296) (dup gg (bb + t - 1) (P % 4294967296)) (by omega) (by omega) bd_3 (fun i hi => by rw [dup_n (by omega)]; exact hgo i (by omega)) (by have q := mulA (P := P) (o := bb) (e := g) (t := n - t) (by omega) (by rw [hP, hgo (bb + t - 1) (by omega)]) hs rfl; rw [show bb + (t - 1) = bb + t - 1 by omega, show n - (t - 1) = n - t + 1 by omega]; exact q) (by omega) H_2 _ hS hZ hX ls (lv_sub hl [0, 2, 1, 4, 5, 6, 7, 8] rfl)
  exact loopA _ n 0 g (Nat.le_refl _) (by decide) hg (fun _ _ => rfl) (by simp [seg_z]) (Nat.lt_succ_self _) H0 _ hS hZ hX ls (lv_sub hl [0, 1, 2, 3, 4, 5, 6, 7] rfl)
set_option maxHeartbeats 1000000 in
theorem m_mulAdd (l : Launch) (z : State) (H0 : Heap) (zr : Nat) (x : Nat) (L o n K nx : Nat) (w : Bool) (g d : Nat → Nat) (hzx : zr ≠ x) (hL : L < 1000000) (hnx9 : nx < 1000000) (hon : o + n ≤ L) (hoL : o < L) (hnx : n ≤ nx) (hK : K < 4294967296) (hg : ∀ i, g i < 4294967296) (hd : ∀ i, d i < 4294967296) (hZ : gI z true .int H0 zr L (dI g)) (hX : gI z w .int H0 x nx (dI d)) : Met l yJ22_mulAdd (ws_ yJ22_mulAdd cJ22_mulAdd 5 (some .int)) { frames := 1, cells := 0, slots := 0, locals := 31 } (gPc z H0 [.ref zr, .ref x, .int (nI o), .int (nI n), .int (nI K)]) (gRi (fun q => q = zr) H0 (fun r H1 => ∃ kk gg, r = nI kk ∧ kk < 4294967296 ∧ (∀ i, gg i < 4294967296) ∧ (∀ i, (i < L - o - n ∨ L - o ≤ i) → gg i = g i) ∧ seg gg (L - o - n) n + kk * 4294967296 ^ n = seg g (L - o - n) n + K * seg d 0 n ∧ gI z true .int H1 zr L (dI gg))) 0 0 (fun q => q = zr) := by
  refine g_start (by decide +kernel) (Nat.le_of_ble_eq_true rfl) ?_
  intro p e s m below meth c ls hx hb hr hlocks hml hown hname hts hwm hl
  have hown : s.vm.findClass "java/math/BigInteger" = some m.cls := hown
  have hal : z.vm.Alike s.vm := hwm.alike
  have hCF : CallFix p m c cJ22_mulAdd 5 s [.ref zr, .ref x, .int (nI o), .int (nI n), .int (nI K)].toArray lw_all "java/math/BigInteger" := ⟨hx, hb, hml, hown, hts⟩
  have hl : lv_has ls 5 [(0, .ref zr), (1, .ref x), (2, .int (nI o)), (3, .int (nI n)), (4, .int (nI K))] := hl
  have hS : va_S (fun q => q = zr) H0 H0 [] := va_S.rf
  have lt_zr := hZ.lt
  have lt_x := hX.lt
  refine lv_aload_n hx hb dJ22_mulAdd_0 rfl (lv_at hl 0 rfl) ?_
  refine lv_aload_n hx hb dJ22_mulAdd_1 rfl (lv_at hl 1 rfl) ?_
  refine lv_iload_n hx hb dJ22_mulAdd_2 rfl (lv_at hl 2 rfl) ?_
  refine lv_iload_n hx hb dJ22_mulAdd_3 rfl (lv_at hl 3 rfl) ?_
  refine lv_iload hx hb dJ22_mulAdd_4 (lv_at hl 4 rfl) ?_
  refine gcS5_vP hCF hwm hl.1 (m_mulAddChk l z H0 zr x L o n K nx w g d hzx hL hnx9 hon hoL hnx hK hg hd hZ hX ) (lw_S q1232 q1233 q83 q1234) yd_J22_implMulAddCheck ⟨Nat.le_of_ble_eq_true rfl, Nat.le_of_ble_eq_true rfl⟩ ⟨Nat.le_of_ble_eq_true rfl, Nat.le_of_ble_eq_true rfl⟩ (Nat.le_of_ble_eq_true rfl) dJ22_mulAdd_6 (fun hp => ?_)
  clear hp
  refine lv_aload_n hx hb dJ22_mulAdd_9 rfl (lv_at hl 0 rfl) ?_
  refine lv_aload_n hx hb dJ22_mulAdd_10 rfl (lv_at hl 1 rfl) ?_
  refine lv_iload_n hx hb dJ22_mulAdd_11 rfl (lv_at hl 2 rfl) ?_
  refine lv_iload_n hx hb dJ22_mulAdd_12 rfl (lv_at hl 3 rfl) ?_
  refine lv_iload hx hb dJ22_mulAdd_13 (lv_at hl 4 rfl) ?_
  have hsz := hS.1
  refine gcS5_i hCF hwm hl.1 (m_mulAdd6 l z H0 zr x L o n K nx w g d hzx hL hnx9 hon hoL hnx hK hg hd hZ hX ) (lw_S q1239 q1240 q83 q1241) yd_J22_implMulAdd hS (fun q h => by have hsz := hS.1; (try dsimp only [gfr] at h ⊢) <;> omega) ⟨Nat.le_of_ble_eq_true rfl, Nat.le_of_ble_eq_true rfl⟩ ⟨Nat.le_of_ble_eq_true rfl, Nat.le_of_ble_eq_true rfl⟩ (Nat.le_of_ble_eq_true rfl) dJ22_mulAdd_15 (fun rr H_1 locs hp hex hS => ?_)
  have sz_H_1 : H0.size ≤ H_1.size := hex.1
  have hX := hX.ex hex (by intro h; (try dsimp only [gfr] at h) <;> omega)
  have hN := hp
  refine g_iret hx hb hr hlocks hS (Nat.le_of_ble_eq_true rfl) (Nat.le_of_ble_eq_true rfl) ?_ dJ22_mulAdd_18
  exact hN
set_option maxHeartbeats 1000000 in
theorem m_addOne (l : Launch) (z : State) (H0 : Heap) (zr : Nat) (L o ml0 K ix : Nat) (g : Nat → Nat) (hL : L < 1000000) (hix : ix + 1 + ml0 + o = L) (hixm : ix < ml0) (hK : K < 4294967296) (hg : ∀ i, g i < 4294967296) (hov : seg g 0 (ix + 1) + K < 4294967296 ^ (ix + 1)) (hZ : gI z true .int H0 zr L (dI g)) : Met l yJ22_addOne (ws_ yJ22_addOne cJ22_addOne 6 (some .int)) { frames := 0, cells := 0, slots := 0, locals := 0 } (gPc z H0 [.ref zr, .int (nI o), .int (nI ml0), .int (nI K)]) (gRi (fun q => q = zr) H0 (fun r H1 => ∃ gg, (∀ i, gg i < 4294967296) ∧ (∀ i, ix < i → gg i = g i) ∧ seg gg 0 (ix + 1) = seg g 0 (ix + 1) + K ∧ gI z true .int H1 zr L (dI gg))) 0 0 (fun q => q = zr) := by
  refine g_start (by decide +kernel) (Nat.le_of_ble_eq_true rfl) ?_
  intro p e s m below meth c ls hx hb hr hlocks hml hown hname hts hwm hl
  have hown : s.vm.findClass "java/math/BigInteger" = some m.cls := hown
  have hal : z.vm.Alike s.vm := hwm.alike
  have hCF : CallFix p m c cJ22_addOne 6 s [.ref zr, .int (nI o), .int (nI ml0), .int (nI K)].toArray lw_all "java/math/BigInteger" := ⟨hx, hb, hml, hown, hts⟩
  have hl : lv_has ls 6 [(0, .ref zr), (1, .int (nI o)), (2, .int (nI ml0)), (3, .int (nI K))] := hl
  have hS : va_S (fun q => q = zr) H0 H0 [] := va_S.rf
  have hgi := hg ix
  have lt_zr := hZ.lt
  refine lv_aload_n hx hb dJ22_addOne_0 rfl (lv_at hl 0 rfl) ?_
  refine gw_len hx hb hal hZ dJ22_addOne_1 ?_
  refine lv_iconst (v := 1) hx hb dJ22_addOne_2 (by decide) ?_
  refine lv_isub hx hb dJ22_addOne_3 ?_
  refine g_topi (v := nI (L - 1)) (ai_sub (a := L) (b := 1) (rfl) (rfl) (by omega)) ?_
  refine lv_iload_n hx hb dJ22_addOne_4 rfl (lv_at hl 2 rfl) ?_
  refine lv_isub hx hb dJ22_addOne_5 ?_
  refine g_topi (v := nI ((L - 1) - ml0)) (ai_sub (a := (L - 1)) (b := ml0) (rfl) (rfl) (by omega)) ?_
  refine lv_iload_n hx hb dJ22_addOne_6 rfl (lv_at hl 1 rfl) ?_
  refine lv_isub hx hb dJ22_addOne_7 ?_
  refine g_topi (v := (nI ix)) ?_ ?_
  · skip
    rw [pk_sub (by omega)]
    exact congrArg nI (by omega)
  refine lv_istore_n hx hb dJ22_addOne_8 rfl hl (by decide) rfl (fun ls hl => ?_)
  have hl : lv_has ls 6 [(1, .int (nI ix)), (0, .ref zr), (2, .int (nI ml0)), (3, .int (nI K))] := hl
  refine lv_aload_n hx hb dJ22_addOne_9 rfl (lv_at hl 1 rfl) ?_
  refine lv_iload_n hx hb dJ22_addOne_10 rfl (lv_at hl 0 rfl) ?_
  refine gw_iald hx hb hal hZ ix (rfl) (by omega) (by omega) dJ22_addOne_11 ?_
  refine g_topi (v := (nI (g ix))) rfl ?_
  refine lv_i2l hx hb dJ22_addOne_12 rfl ?_
  refine lv_ldc2 (v := 4294967295) hx hb hown (hts _ q1228) dJ22_addOne_13 ?_
  refine lv_land hx hb dJ22_addOne_16 ?_
  refine g_topl (v := lN (g ix)) (mk32 (a := (g ix)) (rfl) (hg _)) ?_
  refine lv_iload_n hx hb dJ22_addOne_17 rfl (lv_at hl 3 rfl) ?_
  refine lv_i2l hx hb dJ22_addOne_18 rfl ?_
  refine lv_ldc2 (v := 4294967295) hx hb hown (hts _ q1228) dJ22_addOne_19 ?_
  refine lv_land hx hb dJ22_addOne_22 ?_
  refine g_topl (v := lN K) (mk32 (a := K) (rfl) (hK)) ?_
  refine lv_ladd hx hb dJ22_addOne_23 ?_
  refine g_topl (v := lN (g ix + K)) (ai_addL (a := (g ix)) (b := K) (rfl) (rfl)) ?_
  obtain ⟨P, hP⟩ : ∃ P : Nat, P = (g ix + K) := ⟨_, rfl⟩
  refine g_topl (v := lN P) (by rw [hP]) ?_
  refine lv_lstore hx hb dJ22_addOne_24 hl (by decide) rfl (fun ls hl => ?_)
  have hl : lv_has ls 6 [(4, .long (lN P)), (1, .int (nI ix)), (0, .ref zr), (2, .int (nI ml0)), (3, .int (nI K))] := hl
  refine lv_aload_n hx hb dJ22_addOne_26 rfl (lv_at hl 2 rfl) ?_
  refine lv_iload_n hx hb dJ22_addOne_27 rfl (lv_at hl 1 rfl) ?_
  refine lv_lload hx hb dJ22_addOne_28 (lv_at hl 0 rfl) ?_
  refine lv_l2i hx hb dJ22_addOne_30 rfl ?_
  refine g_topi (v := nI P) (ai_l2i (rfl)) ?_
  refine gw_iast (f := (dI g)) hx hb hal hZ hS (by have hsz := hS.1; (try dsimp only [gfr]) <;> omega) ix (rfl) (by omega) (by omega) dJ22_addOne_31 (fun H_1 locs h_new hch hS => ?_)
  have sz_H_1 := hch.1
  clear hch
  have hZ : gI z true .int H_1 zr L (upd (dI g) ix (nI P)) := h_new
  replace hZ : gI z true .int H_1 zr L (dI (dup g ix (P % 4294967296))) := by
    have q := hZ
    rw [dI_put] at q
    exact q
  have bd_2 : ∀ i, (dup g ix (P % 4294967296)) i < 4294967296 := dup_lt hg (Nat.mod_lt _ (by decide))
  refine lv_lload hx hb dJ22_addOne_32 (lv_at hl 0 rfl) ?_
  refine lv_bipush (v := 32) hx hb dJ22_addOne_34 (by decide) ?_
  refine lv_lushr hx hb dJ22_addOne_36 rfl ?_
  refine g_topl (v := lN (P / 4294967296)) (lN_shr32 (a := P) (by omega)) ?_
  refine lv_lconst (v := 0) hx hb dJ22_addOne_37 (by decide) ?_
  refine W.lcmp hx hb dJ22_addOne_38 ?_
  refine lv_if_ne (tgt := 44) hx hb dJ22_addOne_39 (by decide) (fun c_39 => ?_) (fun c_39 => ?_)
  · skip
    have c_39 := mt (ai_ceq (a := ((P / 4294967296) : Nat)) (b := 0) (lN_lI _) (by decide) (by omega) (by omega) (by omega) (by omega)).mpr c_39
    have hc1 : seg (dup g ix (P % 4294967296)) 0 (ix + 1) + 4294967296 ^ (ix + 1 - ix) = seg g 0 (ix + 1) + K := by
      have q := seg_dup (g := g) (n := ix + 1) (u := ix) (x := P % 4294967296) (by omega)
      rw [show ix + 1 - 1 - ix = 0 by omega, Nat.pow_zero, Nat.mul_one, Nat.mul_one] at q
      rw [show ix + 1 - ix = 1 by omega, Nat.pow_one]
      omega
    have loopA : ∀ (n_ : Nat) (u ml : Nat) (gg : Nat → Nat), (u ≤ ix) → (u < ml ∧ ml ≤ ml0) → (∀ i, gg i < 4294967296) → (∀ i, ix < i → gg i = g i) → (seg gg 0 (ix + 1) + 4294967296 ^ (ix + 1 - u) = seg g 0 (ix + 1) + K) → (u) < n_ → ∀ (H_3 : Heap) (locs : List Loc), va_S (fun q => q = zr) H0 H_3 locs → gI z true .int H_3 zr L (dI gg) → ∀ (ls : Array Slot), lv_has ls 6 [(1, .int (nI u)), (0, .ref zr), (2, .int (nI ml)), (3, .int (nI K))] → W p l e { frames := 0, cells := 0, slots := 0, locals := 0 } s m [.ref zr, .int (nI o), .int (nI ml0), .int (nI K)].toArray below meth c H_3 locs 0 0 (MQ below (gRi (fun q => q = zr) H0 (fun r H1 => ∃ gg, (∀ i, gg i < 4294967296) ∧ (∀ i, ix < i → gg i = g i) ∧ seg gg 0 (ix + 1) = seg g 0 (ix + 1) + K ∧ gI z true .int H1 zr L (dI gg))) [.ref zr, .int (nI o), .int (nI ml0), .int (nI K)].toArray s 0 0 (fun q => q = zr)) (F0 m 44 ls []) := by
      intro n_
      induction n_ with
      | zero => intro u ml gg hu hml hgg hgo hs hm_; exact absurd hm_ (Nat.not_lt_zero _)
      | succ n_ ih_loopA =>
        intro u ml gg hu hml hgg hgo hs hm_ H_3 locs hS hZ ls hl
        refine lv_iinc (k := 2) (v := (iI (((ml : Nat) : Int) - 1))) hx hb dJ22_addOne_44 hl rfl (by rw [nI_iI, show Int32.ofInt (-1) = iI (-1) from rfl, iI_add]; exact congrArg iI (by omega)) (by decide) rfl (fun ls hl => ?_)
        have hl : lv_has ls 6 [(2, .int (iI (((ml : Nat) : Int) - 1))), (1, .int (nI u)), (0, .ref zr), (3, .int (nI K))] := hl
        refine lv_iload_n hx hb dJ22_addOne_47 rfl (lv_at hl 0 rfl) ?_
        refine lv_if_lt (tgt := 75) hx hb dJ22_addOne_48 (by decide) (fun c_48 => False.elim (by
          have c_48 := (ai_ltI (a := (((ml : Nat) : Int) - 1)) (b := 0) (rfl) (by decide) (by omega) (by omega) (by omega) (by omega)).mp c_48
          omega)) (fun c_48 => ?_)
        have c_48 := mt (ai_ltI (a := (((ml : Nat) : Int) - 1)) (b := 0) (rfl) (by decide) (by omega) (by omega) (by omega) (by omega)).mpr c_48
        replace hl : lv_has ls 6 [(2, .int (nI (ml - 1))), (1, .int (nI u)), (0, .ref zr), (3, .int (nI K))] := by
          rw [show nI (ml - 1) = iI ((ml : Int) - 1) by rw [nI_iI]; exact congrArg iI (by omega)]
          exact hl
        have hu1 : 1 ≤ u := by
          refine Decidable.byContradiction fun q => ?_
          have : u = 0 := by omega
          subst this
          rw [Nat.sub_zero] at hs
          omega
        refine lv_iinc (k := 1) (v := (nI (u - 1))) hx hb dJ22_addOne_51 hl rfl (ai_sbn (a := u) (b := 1) (rfl) (show Int32.ofInt (-1) = -nI 1 by decide) (by omega)) (by decide) rfl (fun ls hl => ?_)
        have hl : lv_has ls 6 [(1, .int (nI (u - 1))), (2, .int (nI (ml - 1))), (0, .ref zr), (3, .int (nI K))] := hl
        refine lv_iload_n hx hb dJ22_addOne_54 rfl (lv_at hl 0 rfl) ?_
        refine lv_if_ge (tgt := 60) hx hb dJ22_addOne_55 (by decide) (fun c_55 => ?_) (fun c_55 => False.elim (by
          have c_55 := mt (ai_le (a := 0) (b := (u - 1)) (rfl) (rfl) (by omega) (by omega)).mpr c_55
          omega))
        have c_55 := (ai_le (a := 0) (b := (u - 1)) (rfl) (rfl) (by omega) (by omega)).mp c_55
        refine lv_aload_n hx hb dJ22_addOne_60 rfl (lv_at hl 2 rfl) ?_
        refine lv_iload_n hx hb dJ22_addOne_61 rfl (lv_at hl 0 rfl) ?_
        refine lv_dup2_11 hx hb dJ22_addOne_62 rfl rfl ?_
        refine gw_iald hx hb hal hZ (u - 1) (rfl) (by omega) (by omega) dJ22_addOne_63 ?_
        refine g_topi (v := (nI (gg (u - 1)))) rfl ?_
        refine lv_iconst (v := 1) hx hb dJ22_addOne_64 (by decide) ?_
        refine lv_iadd hx hb dJ22_addOne_65 ?_
        refine g_topi (v := nI ((gg (u - 1)) + 1)) (ai_add (a := (gg (u - 1))) (b := 1) (rfl) (rfl)) ?_
        refine gw_iast (f := (dI gg)) hx hb hal hZ hS (by have hsz := hS.1; (try dsimp only [gfr]) <;> omega) (u - 1) (rfl) (by omega) (by omega) dJ22_addOne_66 (fun H_4 locs h_new hch hS => ?_)
        have sz_H_4 := hch.1
        clear hch
        have hZ : gI z true .int H_4 zr L (upd (dI gg) (u - 1) (nI ((gg (u - 1)) + 1))) := h_new
        replace hZ : gI z true .int H_4 zr L (dI (dup gg (u - 1) (((gg (u - 1)) + 1) % 4294967296))) := by
          have q := hZ
          rw [dI_put] at q
          exact q
        have bd_5 : ∀ i, (dup gg (u - 1) (((gg (u - 1)) + 1) % 4294967296)) i < 4294967296 := dup_lt hgg (Nat.mod_lt _ (by decide))
        refine lv_aload_n hx hb dJ22_addOne_67 rfl (lv_at hl 2 rfl) ?_
        refine lv_iload_n hx hb dJ22_addOne_68 rfl (lv_at hl 0 rfl) ?_
        refine gw_iald hx hb hal hZ (u - 1) (rfl) (by omega) (by omega) dJ22_addOne_69 ?_
        refine g_topi (v := (nI ((dup gg (u - 1) (((gg (u - 1)) + 1) % 4294967296)) (u - 1)))) rfl ?_
        refine g_topi (v := (nI ((gg (u - 1) + 1) % 4294967296))) (by rw [dup_s]) ?_
        refine lv_if_eq (tgt := 44) hx hb dJ22_addOne_70 (by decide) (fun c_70 => ?_) (fun c_70 => ?_)
        · skip
          have c_70 := (ai_eqU (a := ((gg (u - 1) + 1) % 4294967296)) (b := 0) (rfl) (rfl) (Nat.mod_lt _ (by decide)) (by omega)).mp c_70
          exact ih_loopA (u - 1) (ml - 1) (dup gg (u - 1) (((gg (u - 1)) + 1) % 4294967296)) (by omega) (by omega) bd_5 (fun i hi => by rw [dup_n (by omega)]; exact hgo i hi) ((inc_dig hu1 (by omega) (hgg (u - 1)) hs).1 c_70) (by omega) H_4 _ hS hZ ls (lv_sub hl [0, 2, 1, 3] rfl)
        · skip
          have c_70 := mt (ai_eqU (a := ((gg (u - 1) + 1) % 4294967296)) (b := 0) (rfl) (rfl) (Nat.mod_lt _ (by decide)) (by omega)).mpr c_70
          refine lv_iconst (v := 0) hx hb dJ22_addOne_73 (by decide) ?_
          refine g_iret hx hb hr hlocks hS (Nat.le_of_ble_eq_true rfl) (Nat.le_of_ble_eq_true rfl) ?_ dJ22_addOne_74
          exact ⟨_, bd_5, fun i hi => by rw [dup_n (by omega)]; exact hgo i hi, (inc_dig hu1 (by omega) (hgg (u - 1)) hs).2 c_70, hZ⟩
    exact loopA _ ix ml0 (dup g ix (P % 4294967296)) (Nat.le_refl _) (by omega) bd_2 (fun i hi => dup_n (by omega)) hc1 (Nat.lt_succ_self _) H_1 _ hS hZ ls (lv_sub hl [1, 2, 3, 4] rfl)
  · skip
    have c_39 := (ai_ceq (a := ((P / 4294967296) : Nat)) (b := 0) (lN_lI _) (by decide) (by omega) (by omega) (by omega) (by omega)).mp c_39
    have hc0 : seg (dup g ix (P % 4294967296)) 0 (ix + 1) = seg g 0 (ix + 1) + K := by
      have q := seg_dup (g := g) (n := ix + 1) (u := ix) (x := P % 4294967296) (by omega)
      rw [show ix + 1 - 1 - ix = 0 by omega, Nat.pow_zero, Nat.mul_one, Nat.mul_one] at q
      omega
    refine lv_iconst (v := 0) hx hb dJ22_addOne_42 (by decide) ?_
    refine g_iret hx hb hr hlocks hS (Nat.le_of_ble_eq_true rfl) (Nat.le_of_ble_eq_true rfl) ?_ dJ22_addOne_43
    exact ⟨_, bd_2, fun i hi => dup_n (by omega), hc0, hZ⟩
set_option maxHeartbeats 1000000 in
theorem m_shlSelf (l : Launch) (z : State) (H0 : Heap) (a : Nat) (s0 n na : Nat) (d : Nat → Nat) (hs0 : 0 < s0) (hs : s0 < 32) (hna : na < 134217728) (h1 : n + 1 ≤ na) (hd : ∀ i, d i < 4294967296) (hA : gI z true .int H0 a na (dI d)) : Met l yJ22_shiftLeftImplWorker (ws_ yJ22_shiftLeftImplWorker cJ22_shiftLeftImplWorker 7 (none)) { frames := 0, cells := 0, slots := 0, locals := 0 } (gPc z H0 [.ref a, .ref a , .int 0, .int (nI s0), .int (nI n)]) (gRv (fun q => q = a) H0 (fun H1 => gI z true .int H1 a na (dI (wi d s0 n)))) 0 0 (fun q => q = a) := by
  refine g_start (by decide +kernel) (Nat.le_of_ble_eq_true rfl) ?_
  intro p e s m below meth c ls hx hb hr hlocks hml hown hname hts hwm hl
  have hown : s.vm.findClass "java/math/BigInteger" = some m.cls := hown
  have hal : z.vm.Alike s.vm := hwm.alike
  have hCF : CallFix p m c cJ22_shiftLeftImplWorker 7 s [.ref a, .ref a , .int 0, .int (nI s0), .int (nI n)].toArray lw_all "java/math/BigInteger" := ⟨hx, hb, hml, hown, hts⟩
  have hl : lv_has ls 7 [(0, .ref a), (1, .ref (a )), (2, .int 0), (3, .int (nI s0)), (4, .int (nI n))] := hl
  have hS : va_S (fun q => q = a) H0 H0 [] := va_S.rf
  have lt_a := hA.lt
  refine lv_bipush (v := 32) hx hb dJ22_shiftLeftImplWorker_0 (by decide) ?_
  refine lv_iload_n hx hb dJ22_shiftLeftImplWorker_2 rfl (lv_at hl 3 rfl) ?_
  refine lv_isub hx hb dJ22_shiftLeftImplWorker_3 ?_
  refine g_topi (v := nI (32 - s0)) (ai_sub (a := 32) (b := s0) (rfl) (rfl) (by omega)) ?_
  refine lv_istore hx hb dJ22_shiftLeftImplWorker_4 hl (by decide) rfl (fun ls hl => ?_)
  have hl : lv_has ls 7 [(5, .int (nI (32 - s0))), (0, .ref a), (1, .ref (a )), (2, .int 0), (3, .int (nI s0)), (4, .int (nI n))] := hl
  refine lv_iconst (v := 0) hx hb dJ22_shiftLeftImplWorker_6 (by decide) ?_
  refine lv_istore hx hb dJ22_shiftLeftImplWorker_7 hl (by decide) rfl (fun ls hl => ?_)
  have hl : lv_has ls 7 [(6, .int 0), (5, .int (nI (32 - s0))), (0, .ref a), (1, .ref (a )), (2, .int 0), (3, .int (nI s0)), (4, .int (nI n))] := hl
  have e_fit : d = (wi d s0 0) := by
    funext i
    exact (wi_ge (Nat.zero_le _)).symm
  replace hA : gI z true .int H0 a na (dI (wi d s0 0)) := by
    rw [← e_fit]
    exact hA
  clear e_fit
  have loopA : ∀ (n_ : Nat) (t : Nat), (t ≤ n) → (n - t) < n_ → ∀ (H_1 : Heap) (locs : List Loc), va_S (fun q => q = a) H0 H_1 locs → gI z true .int H_1 a na (dI (wi d s0 t)) → ∀ (ls : Array Slot), lv_has ls 7 [(6, .int (nI t)), (5, .int (nI (32 - s0))), (0, .ref a), (1, .ref (a )), (2, .int (nI t)), (3, .int (nI s0)), (4, .int (nI n))] → W p l e { frames := 0, cells := 0, slots := 0, locals := 0 } s m [.ref a, .ref a , .int 0, .int (nI s0), .int (nI n)].toArray below meth c H_1 locs 0 0 (MQ below (gRv (fun q => q = a) H0 (fun H1 => gI z true .int H1 a na (dI (wi d s0 n)))) [.ref a, .ref a , .int 0, .int (nI s0), .int (nI n)].toArray s 0 0 (fun q => q = a)) (F0 m 9 ls []) := by
    intro n_
    induction n_ with
    | zero => intro t ht hm_; exact absurd hm_ (Nat.not_lt_zero _)
    | succ n_ ih_loopA =>
      intro t ht hm_ H_1 locs hS hA ls hl
      refine lv_iload hx hb dJ22_shiftLeftImplWorker_9 (lv_at hl 0 rfl) ?_
      refine lv_iload hx hb dJ22_shiftLeftImplWorker_11 (lv_at hl 6 rfl) ?_
      refine lv_icmp_ge (tgt := 42) hx hb dJ22_shiftLeftImplWorker_13 (by decide) (fun c_13 => ?_) (fun c_13 => ?_)
      · skip
        have c_13 := (ai_le (a := n) (b := t) (rfl) (rfl) (by omega) (by omega)).mp c_13
        refine g_vret hx hb hr hlocks hS (Nat.le_of_ble_eq_true rfl) (Nat.le_of_ble_eq_true rfl) ?_ dJ22_shiftLeftImplWorker_42
        have e0 : t = n := by omega
        subst e0
        exact hA
      · skip
        have c_13 := mt (ai_le (a := n) (b := t) (rfl) (rfl) (by omega) (by omega)).mpr c_13
        refine lv_aload_n hx hb dJ22_shiftLeftImplWorker_16 rfl (lv_at hl 2 rfl) ?_
        refine lv_iload_n hx hb dJ22_shiftLeftImplWorker_17 rfl (lv_at hl 4 rfl) ?_
        refine lv_iinc (k := 4) (v := (nI (t + 1))) hx hb dJ22_shiftLeftImplWorker_18 hl rfl (ai_add (a := t) (b := 1) (rfl) (show Int32.ofInt 1 = nI 1 by decide)) (by decide) rfl (fun ls hl => ?_)
        have hl : lv_has ls 7 [(2, .int (nI (t + 1))), (6, .int (nI t)), (5, .int (nI (32 - s0))), (0, .ref a), (1, .ref (a )), (3, .int (nI s0)), (4, .int (nI n))] := hl
        refine lv_aload_n hx hb dJ22_shiftLeftImplWorker_21 rfl (lv_at hl 4 rfl) ?_
        refine lv_iload hx hb dJ22_shiftLeftImplWorker_22 (lv_at hl 1 rfl) ?_
        refine lv_iinc (k := 1) (v := (nI (t + 1))) hx hb dJ22_shiftLeftImplWorker_24 hl rfl (ai_add (a := t) (b := 1) (rfl) (show Int32.ofInt 1 = nI 1 by decide)) (by decide) rfl (fun ls hl => ?_)
        have hl : lv_has ls 7 [(6, .int (nI (t + 1))), (2, .int (nI (t + 1))), (5, .int (nI (32 - s0))), (0, .ref a), (1, .ref (a )), (3, .int (nI s0)), (4, .int (nI n))] := hl
        refine gw_iald hx hb hal hA t (rfl) (by omega) (by omega) dJ22_shiftLeftImplWorker_27 ?_
        refine g_topi (v := (nI ((wi d s0 t) t))) rfl ?_
        refine g_topi (v := (nI (d t))) (by rw [wi_ge (Nat.le_refl _)]) ?_
        have hdt := hd (t + 1)
        refine lv_iload_n hx hb dJ22_shiftLeftImplWorker_28 rfl (lv_at hl 5 rfl) ?_
        refine lv_ishl hx hb dJ22_shiftLeftImplWorker_29 ?_
        refine g_topi (v := nI ((d t) * 2 ^ s0)) (ai_shlv (a := (d t)) (k := s0) (rfl) (rfl) (by omega)) ?_
        refine lv_aload_n hx hb dJ22_shiftLeftImplWorker_30 rfl (lv_at hl 4 rfl) ?_
        refine lv_iload hx hb dJ22_shiftLeftImplWorker_31 (lv_at hl 0 rfl) ?_
        refine gw_iald hx hb hal hA (t + 1) (rfl) (by omega) (by omega) dJ22_shiftLeftImplWorker_33 ?_
        refine g_topi (v := (nI ((wi d s0 t) (t + 1)))) rfl ?_
        refine g_topi (v := (nI (d (t + 1)))) (by rw [wi_ge (by omega)]) ?_
        refine lv_iload hx hb dJ22_shiftLeftImplWorker_34 (lv_at hl 2 rfl) ?_
        refine lv_iushr hx hb dJ22_shiftLeftImplWorker_36 rfl ?_
        refine g_topi (v := nI ((d (t + 1)) / 2 ^ (32 - s0))) (ai_ushr (a := (d (t + 1))) (k := (32 - s0)) (rfl) (rfl) (by omega) (by omega)) ?_
        refine lv_ior hx hb dJ22_shiftLeftImplWorker_37 ?_
        refine g_topi (v := (nI ((d t * 2 ^ s0) % 4294967296 + d (t + 1) / 2 ^ (32 - s0)))) ((sh_dig hs hs0 (hd (t + 1))).1) ?_
        refine gw_iast (f := (dI (wi d s0 t))) hx hb hal hA hS (by have hsz := hS.1; (try dsimp only [gfr]) <;> omega) t (rfl) (by omega) (by omega) dJ22_shiftLeftImplWorker_38 (fun H_2 locs h_new hch hS => ?_)
        have sz_H_2 := hch.1
        clear hch
        have hA : gI z true .int H_2 a na (upd (dI (wi d s0 t)) t (nI ((d t * 2 ^ s0) % 4294967296 + d (t + 1) / 2 ^ (32 - s0)))) := h_new
        replace hA : gI z true .int H_2 a na (dI (dup (wi d s0 t) t (((d t * 2 ^ s0) % 4294967296 + d (t + 1) / 2 ^ (32 - s0)) % 4294967296))) := by
          have q := hA
          rw [dI_put] at q
          exact q
        have bd_3 : ∀ i, (dup (wi d s0 t) t (((d t * 2 ^ s0) % 4294967296 + d (t + 1) / 2 ^ (32 - s0)) % 4294967296)) i < 4294967296 := dup_lt (wi_lt hd hs hs0) (Nat.mod_lt _ (by decide))
        refine lv_goto (tgt := 9) hx hb dJ22_shiftLeftImplWorker_39 (by decide) ?_
        have e_fit : (dup (wi d s0 t) t (((d t * 2 ^ s0) % 4294967296 + d (t + 1) / 2 ^ (32 - s0)) % 4294967296)) = (wi d s0 (t + 1)) := by
          exact wi_s hd hs hs0
        replace hA : gI z true .int H_2 a na (dI (wi d s0 (t + 1))) := by
          rw [← e_fit]
          exact hA
        clear e_fit
        exact ih_loopA (t + 1) (by omega) (by omega) H_2 _ hS hA ls (lv_sub hl [0, 2, 3, 4, 1, 5, 6] rfl)
  exact loopA _ 0 (Nat.zero_le _) (Nat.lt_succ_self _) H0 _ hS hA ls (lv_sub hl [0, 1, 2, 3, 4, 5, 6] rfl)
