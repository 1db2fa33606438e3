/-! ## walks (written by tools) -/
set_option maxRecDepth 100000
def dkwJ22_primitiveLeftShift_1 : List UInt8 := [184, 2, 106, 42, 27, 4, 100, 92, 46, 28, 120, 79, 177]
abbrev dktJ22_primitiveLeftShift_1 : List UInt8 := dkwJ22_primitiveLeftShift_1 ++ []
def dkwJ22_primitiveLeftShift_0 : List UInt8 := [27, 153, 0, 7, 28, 154, 0, 4, 177, 3, 27, 42, 190, 184, 2, 99, 87, 42, 42, 3, 28, 27, 4, 100]
abbrev dktJ22_primitiveLeftShift_0 : List UInt8 := dkwJ22_primitiveLeftShift_0 ++ dktJ22_primitiveLeftShift_1
theorem dksJ22_primitiveLeftShift_0 : cJ22_primitiveLeftShift.data.toList.drop 0 = dktJ22_primitiveLeftShift_0 := by decide +kernel
theorem dksJ22_primitiveLeftShift_1 : cJ22_primitiveLeftShift.data.toList.drop 24 = dktJ22_primitiveLeftShift_1 := dk_seg dksJ22_primitiveLeftShift_0 24 rfl rfl
theorem dJ22_primitiveLeftShift_0 : decode cJ22_primitiveLeftShift 0 = .ok (.iload_n 1, 1) := dk_27 (dk_at dksJ22_primitiveLeftShift_0 0 rfl rfl)
theorem dJ22_primitiveLeftShift_1 : decode cJ22_primitiveLeftShift 1 = .ok (.ifCond .eq 7, 3) := dk_153 0 7 (dk_at dksJ22_primitiveLeftShift_0 1 rfl rfl)
theorem dJ22_primitiveLeftShift_4 : decode cJ22_primitiveLeftShift 4 = .ok (.iload_n 2, 1) := dk_28 (dk_at dksJ22_primitiveLeftShift_0 4 rfl rfl)
theorem dJ22_primitiveLeftShift_5 : decode cJ22_primitiveLeftShift 5 = .ok (.ifCond .ne 4, 3) := dk_154 0 4 (dk_at dksJ22_primitiveLeftShift_0 5 rfl rfl)
theorem dJ22_primitiveLeftShift_8 : decode cJ22_primitiveLeftShift 8 = .ok (.return_, 1) := dk_177 (dk_at dksJ22_primitiveLeftShift_0 8 rfl rfl)
theorem dJ22_primitiveLeftShift_9 : decode cJ22_primitiveLeftShift 9 = .ok (.iconst 0, 1) := dk_3 (dk_at dksJ22_primitiveLeftShift_0 9 rfl rfl)
theorem dJ22_primitiveLeftShift_10 : decode cJ22_primitiveLeftShift 10 = .ok (.iload_n 1, 1) := dk_27 (dk_at dksJ22_primitiveLeftShift_0 10 rfl rfl)
theorem dJ22_primitiveLeftShift_11 : decode cJ22_primitiveLeftShift 11 = .ok (.aload_n 0, 1) := dk_42 (dk_at dksJ22_primitiveLeftShift_0 11 rfl rfl)
theorem dJ22_primitiveLeftShift_12 : decode cJ22_primitiveLeftShift 12 = .ok (.arraylength, 1) := dk_190 (dk_at dksJ22_primitiveLeftShift_0 12 rfl rfl)
theorem dJ22_primitiveLeftShift_13 : decode cJ22_primitiveLeftShift 13 = .ok (.invokestatic 611, 3) := dk_184 2 99 (dk_at dksJ22_primitiveLeftShift_0 13 rfl rfl)
theorem dJ22_primitiveLeftShift_16 : decode cJ22_primitiveLeftShift 16 = .ok (.pop, 1) := dk_87 (dk_at dksJ22_primitiveLeftShift_0 16 rfl rfl)
theorem dJ22_primitiveLeftShift_17 : decode cJ22_primitiveLeftShift 17 = .ok (.aload_n 0, 1) := dk_42 (dk_at dksJ22_primitiveLeftShift_0 17 rfl rfl)
theorem dJ22_primitiveLeftShift_18 : decode cJ22_primitiveLeftShift 18 = .ok (.aload_n 0, 1) := dk_42 (dk_at dksJ22_primitiveLeftShift_0 18 rfl rfl)
theorem dJ22_primitiveLeftShift_19 : decode cJ22_primitiveLeftShift 19 = .ok (.iconst 0, 1) := dk_3 (dk_at dksJ22_primitiveLeftShift_0 19 rfl rfl)
theorem dJ22_primitiveLeftShift_20 : decode cJ22_primitiveLeftShift 20 = .ok (.iload_n 2, 1) := dk_28 (dk_at dksJ22_primitiveLeftShift_0 20 rfl rfl)
theorem dJ22_primitiveLeftShift_21 : decode cJ22_primitiveLeftShift 21 = .ok (.iload_n 1, 1) := dk_27 (dk_at dksJ22_primitiveLeftShift_0 21 rfl rfl)
theorem dJ22_primitiveLeftShift_22 : decode cJ22_primitiveLeftShift 22 = .ok (.iconst 1, 1) := dk_4 (dk_at dksJ22_primitiveLeftShift_0 22 rfl rfl)
theorem dJ22_primitiveLeftShift_23 : decode cJ22_primitiveLeftShift 23 = .ok (.isub, 1) := dk_100 (dk_at dksJ22_primitiveLeftShift_0 23 rfl rfl)
theorem dJ22_primitiveLeftShift_24 : decode cJ22_primitiveLeftShift 24 = .ok (.invokestatic 618, 3) := dk_184 2 106 (dk_at dksJ22_primitiveLeftShift_1 0 rfl rfl)
theorem dJ22_primitiveLeftShift_27 : decode cJ22_primitiveLeftShift 27 = .ok (.aload_n 0, 1) := dk_42 (dk_at dksJ22_primitiveLeftShift_1 3 rfl rfl)
theorem dJ22_primitiveLeftShift_28 : decode cJ22_primitiveLeftShift 28 = .ok (.iload_n 1, 1) := dk_27 (dk_at dksJ22_primitiveLeftShift_1 4 rfl rfl)
theorem dJ22_primitiveLeftShift_29 : decode cJ22_primitiveLeftShift 29 = .ok (.iconst 1, 1) := dk_4 (dk_at dksJ22_primitiveLeftShift_1 5 rfl rfl)
theorem dJ22_primitiveLeftShift_30 : decode cJ22_primitiveLeftShift 30 = .ok (.isub, 1) := dk_100 (dk_at dksJ22_primitiveLeftShift_1 6 rfl rfl)
theorem dJ22_primitiveLeftShift_31 : decode cJ22_primitiveLeftShift 31 = .ok (.dup2, 1) := dk_92 (dk_at dksJ22_primitiveLeftShift_1 7 rfl rfl)
theorem dJ22_primitiveLeftShift_32 : decode cJ22_primitiveLeftShift 32 = .ok (.iaload, 1) := dk_46 (dk_at dksJ22_primitiveLeftShift_1 8 rfl rfl)
theorem dJ22_primitiveLeftShift_33 : decode cJ22_primitiveLeftShift 33 = .ok (.iload_n 2, 1) := dk_28 (dk_at dksJ22_primitiveLeftShift_1 9 rfl rfl)
theorem dJ22_primitiveLeftShift_34 : decode cJ22_primitiveLeftShift 34 = .ok (.ishl, 1) := dk_120 (dk_at dksJ22_primitiveLeftShift_1 10 rfl rfl)
theorem dJ22_primitiveLeftShift_35 : decode cJ22_primitiveLeftShift 35 = .ok (.iastore, 1) := dk_79 (dk_at dksJ22_primitiveLeftShift_1 11 rfl rfl)
theorem dJ22_primitiveLeftShift_36 : decode cJ22_primitiveLeftShift 36 = .ok (.return_, 1) := dk_177 (dk_at dksJ22_primitiveLeftShift_1 12 rfl rfl)
def dkwJ22_implSquareToLenChecks_8 : List UInt8 := [19, 2, 7, 182, 0, 247, 44, 190, 182, 2, 2, 182, 0, 254, 183, 0, 149, 191, 177]
abbrev dktJ22_implSquareToLenChecks_8 : List UInt8 := dkwJ22_implSquareToLenChecks_8 ++ []
def dkwJ22_implSquareToLenChecks_7 : List UInt8 := [164, 0, 42, 187, 0, 145, 89, 187, 0, 242, 89, 183, 0, 244, 19, 2, 5, 182, 0, 247, 27, 182, 2, 2]
abbrev dktJ22_implSquareToLenChecks_7 : List UInt8 := dkwJ22_implSquareToLenChecks_7 ++ dktJ22_implSquareToLenChecks_8
def dkwJ22_implSquareToLenChecks_6 : List UInt8 := [183, 0, 244, 19, 2, 0, 182, 0, 247, 29, 182, 2, 2, 182, 0, 254, 183, 0, 149, 191, 29, 44, 190]
abbrev dktJ22_implSquareToLenChecks_6 : List UInt8 := dkwJ22_implSquareToLenChecks_6 ++ dktJ22_implSquareToLenChecks_7
def dkwJ22_implSquareToLenChecks_5 : List UInt8 := [182, 2, 2, 182, 0, 254, 183, 0, 149, 191, 29, 4, 162, 0, 31, 187, 0, 145, 89, 187, 0, 242, 89]
abbrev dktJ22_implSquareToLenChecks_5 : List UInt8 := dkwJ22_implSquareToLenChecks_5 ++ dktJ22_implSquareToLenChecks_6
def dkwJ22_implSquareToLenChecks_4 : List UInt8 := [183, 0, 244, 19, 2, 5, 182, 0, 247, 27, 5, 104, 182, 2, 2, 19, 2, 7, 182, 0, 247, 44, 190]
abbrev dktJ22_implSquareToLenChecks_4 : List UInt8 := dkwJ22_implSquareToLenChecks_4 ++ dktJ22_implSquareToLenChecks_5
def dkwJ22_implSquareToLenChecks_3 : List UInt8 := [182, 0, 254, 183, 0, 149, 191, 27, 5, 104, 44, 190, 164, 0, 44, 187, 0, 145, 89, 187, 0, 242, 89]
abbrev dktJ22_implSquareToLenChecks_3 : List UInt8 := dkwJ22_implSquareToLenChecks_3 ++ dktJ22_implSquareToLenChecks_4
def dkwJ22_implSquareToLenChecks_2 : List UInt8 := [183, 0, 244, 19, 2, 5, 182, 0, 247, 27, 182, 2, 2, 19, 2, 7, 182, 0, 247, 42, 190, 182, 2, 2]
abbrev dktJ22_implSquareToLenChecks_2 : List UInt8 := dkwJ22_implSquareToLenChecks_2 ++ dktJ22_implSquareToLenChecks_3
def dkwJ22_implSquareToLenChecks_1 : List UInt8 := [182, 2, 2, 182, 0, 254, 183, 0, 149, 191, 27, 42, 190, 164, 0, 42, 187, 0, 145, 89, 187, 0, 242, 89]
abbrev dktJ22_implSquareToLenChecks_1 : List UInt8 := dkwJ22_implSquareToLenChecks_1 ++ dktJ22_implSquareToLenChecks_2
def dkwJ22_implSquareToLenChecks_0 : List UInt8 := [27, 4, 162, 0, 31, 187, 0, 145, 89, 187, 0, 242, 89, 183, 0, 244, 19, 2, 0, 182, 0, 247, 27]
abbrev dktJ22_implSquareToLenChecks_0 : List UInt8 := dkwJ22_implSquareToLenChecks_0 ++ dktJ22_implSquareToLenChecks_1
theorem dksJ22_implSquareToLenChecks_0 : cJ22_implSquareToLenChecks.data.toList.drop 0 = dktJ22_implSquareToLenChecks_0 := by decide +kernel
theorem dksJ22_implSquareToLenChecks_1 : cJ22_implSquareToLenChecks.data.toList.drop 23 = dktJ22_implSquareToLenChecks_1 := dk_seg dksJ22_implSquareToLenChecks_0 23 rfl rfl
theorem dksJ22_implSquareToLenChecks_2 : cJ22_implSquareToLenChecks.data.toList.drop 47 = dktJ22_implSquareToLenChecks_2 := dk_seg dksJ22_implSquareToLenChecks_1 24 rfl rfl
theorem dksJ22_implSquareToLenChecks_3 : cJ22_implSquareToLenChecks.data.toList.drop 71 = dktJ22_implSquareToLenChecks_3 := dk_seg dksJ22_implSquareToLenChecks_2 24 rfl rfl
theorem dksJ22_implSquareToLenChecks_4 : cJ22_implSquareToLenChecks.data.toList.drop 94 = dktJ22_implSquareToLenChecks_4 := dk_seg dksJ22_implSquareToLenChecks_3 23 rfl rfl
theorem dksJ22_implSquareToLenChecks_5 : cJ22_implSquareToLenChecks.data.toList.drop 117 = dktJ22_implSquareToLenChecks_5 := dk_seg dksJ22_implSquareToLenChecks_4 23 rfl rfl
theorem dksJ22_implSquareToLenChecks_6 : cJ22_implSquareToLenChecks.data.toList.drop 140 = dktJ22_implSquareToLenChecks_6 := dk_seg dksJ22_implSquareToLenChecks_5 23 rfl rfl
theorem dksJ22_implSquareToLenChecks_7 : cJ22_implSquareToLenChecks.data.toList.drop 163 = dktJ22_implSquareToLenChecks_7 := dk_seg dksJ22_implSquareToLenChecks_6 23 rfl rfl
theorem dksJ22_implSquareToLenChecks_8 : cJ22_implSquareToLenChecks.data.toList.drop 187 = dktJ22_implSquareToLenChecks_8 := dk_seg dksJ22_implSquareToLenChecks_7 24 rfl rfl
theorem dJ22_implSquareToLenChecks_0 : decode cJ22_implSquareToLenChecks 0 = .ok (.iload_n 1, 1) := dk_27 (dk_at dksJ22_implSquareToLenChecks_0 0 rfl rfl)
theorem dJ22_implSquareToLenChecks_1 : decode cJ22_implSquareToLenChecks 1 = .ok (.iconst 1, 1) := dk_4 (dk_at dksJ22_implSquareToLenChecks_0 1 rfl rfl)
theorem dJ22_implSquareToLenChecks_2 : decode cJ22_implSquareToLenChecks 2 = .ok (.if_icmp .ge 31, 3) := dk_162 0 31 (dk_at dksJ22_implSquareToLenChecks_0 2 rfl rfl)
theorem dJ22_implSquareToLenChecks_5 : decode cJ22_implSquareToLenChecks 5 = .ok (.new 145, 3) := dk_187 0 145 (dk_at dksJ22_implSquareToLenChecks_0 5 rfl rfl)
theorem dJ22_implSquareToLenChecks_8 : decode cJ22_implSquareToLenChecks 8 = .ok (.dup, 1) := dk_89 (dk_at dksJ22_implSquareToLenChecks_0 8 rfl rfl)
theorem dJ22_implSquareToLenChecks_9 : decode cJ22_implSquareToLenChecks 9 = .ok (.new 242, 3) := dk_187 0 242 (dk_at dksJ22_implSquareToLenChecks_0 9 rfl rfl)
theorem dJ22_implSquareToLenChecks_12 : decode cJ22_implSquareToLenChecks 12 = .ok (.dup, 1) := dk_89 (dk_at dksJ22_implSquareToLenChecks_0 12 rfl rfl)
theorem dJ22_implSquareToLenChecks_13 : decode cJ22_implSquareToLenChecks 13 = .ok (.invokespecial 244, 3) := dk_183 0 244 (dk_at dksJ22_implSquareToLenChecks_0 13 rfl rfl)
theorem dJ22_implSquareToLenChecks_16 : decode cJ22_implSquareToLenChecks 16 = .ok (.ldc_w 512, 3) := dk_19 2 0 (dk_at dksJ22_implSquareToLenChecks_0 16 rfl rfl)
theorem dJ22_implSquareToLenChecks_19 : decode cJ22_implSquareToLenChecks 19 = .ok (.invokevirtual 247, 3) := dk_182 0 247 (dk_at dksJ22_implSquareToLenChecks_0 19 rfl rfl)
theorem dJ22_implSquareToLenChecks_22 : decode cJ22_implSquareToLenChecks 22 = .ok (.iload_n 1, 1) := dk_27 (dk_at dksJ22_implSquareToLenChecks_0 22 rfl rfl)
theorem dJ22_implSquareToLenChecks_23 : decode cJ22_implSquareToLenChecks 23 = .ok (.invokevirtual 514, 3) := dk_182 2 2 (dk_at dksJ22_implSquareToLenChecks_1 0 rfl rfl)
theorem dJ22_implSquareToLenChecks_26 : decode cJ22_implSquareToLenChecks 26 = .ok (.invokevirtual 254, 3) := dk_182 0 254 (dk_at dksJ22_implSquareToLenChecks_1 3 rfl rfl)
theorem dJ22_implSquareToLenChecks_29 : decode cJ22_implSquareToLenChecks 29 = .ok (.invokespecial 149, 3) := dk_183 0 149 (dk_at dksJ22_implSquareToLenChecks_1 6 rfl rfl)
theorem dJ22_implSquareToLenChecks_32 : decode cJ22_implSquareToLenChecks 32 = .ok (.athrow, 1) := dk_191 (dk_at dksJ22_implSquareToLenChecks_1 9 rfl rfl)
theorem dJ22_implSquareToLenChecks_33 : decode cJ22_implSquareToLenChecks 33 = .ok (.iload_n 1, 1) := dk_27 (dk_at dksJ22_implSquareToLenChecks_1 10 rfl rfl)
theorem dJ22_implSquareToLenChecks_34 : decode cJ22_implSquareToLenChecks 34 = .ok (.aload_n 0, 1) := dk_42 (dk_at dksJ22_implSquareToLenChecks_1 11 rfl rfl)
theorem dJ22_implSquareToLenChecks_35 : decode cJ22_implSquareToLenChecks 35 = .ok (.arraylength, 1) := dk_190 (dk_at dksJ22_implSquareToLenChecks_1 12 rfl rfl)
theorem dJ22_implSquareToLenChecks_36 : decode cJ22_implSquareToLenChecks 36 = .ok (.if_icmp .le 42, 3) := dk_164 0 42 (dk_at dksJ22_implSquareToLenChecks_1 13 rfl rfl)
theorem dJ22_implSquareToLenChecks_39 : decode cJ22_implSquareToLenChecks 39 = .ok (.new 145, 3) := dk_187 0 145 (dk_at dksJ22_implSquareToLenChecks_1 16 rfl rfl)
theorem dJ22_implSquareToLenChecks_42 : decode cJ22_implSquareToLenChecks 42 = .ok (.dup, 1) := dk_89 (dk_at dksJ22_implSquareToLenChecks_1 19 rfl rfl)
theorem dJ22_implSquareToLenChecks_43 : decode cJ22_implSquareToLenChecks 43 = .ok (.new 242, 3) := dk_187 0 242 (dk_at dksJ22_implSquareToLenChecks_1 20 rfl rfl)
theorem dJ22_implSquareToLenChecks_46 : decode cJ22_implSquareToLenChecks 46 = .ok (.dup, 1) := dk_89 (dk_at dksJ22_implSquareToLenChecks_1 23 rfl rfl)
theorem dJ22_implSquareToLenChecks_47 : decode cJ22_implSquareToLenChecks 47 = .ok (.invokespecial 244, 3) := dk_183 0 244 (dk_at dksJ22_implSquareToLenChecks_2 0 rfl rfl)
theorem dJ22_implSquareToLenChecks_50 : decode cJ22_implSquareToLenChecks 50 = .ok (.ldc_w 517, 3) := dk_19 2 5 (dk_at dksJ22_implSquareToLenChecks_2 3 rfl rfl)
theorem dJ22_implSquareToLenChecks_53 : decode cJ22_implSquareToLenChecks 53 = .ok (.invokevirtual 247, 3) := dk_182 0 247 (dk_at dksJ22_implSquareToLenChecks_2 6 rfl rfl)
theorem dJ22_implSquareToLenChecks_56 : decode cJ22_implSquareToLenChecks 56 = .ok (.iload_n 1, 1) := dk_27 (dk_at dksJ22_implSquareToLenChecks_2 9 rfl rfl)
theorem dJ22_implSquareToLenChecks_57 : decode cJ22_implSquareToLenChecks 57 = .ok (.invokevirtual 514, 3) := dk_182 2 2 (dk_at dksJ22_implSquareToLenChecks_2 10 rfl rfl)
theorem dJ22_implSquareToLenChecks_60 : decode cJ22_implSquareToLenChecks 60 = .ok (.ldc_w 519, 3) := dk_19 2 7 (dk_at dksJ22_implSquareToLenChecks_2 13 rfl rfl)
theorem dJ22_implSquareToLenChecks_63 : decode cJ22_implSquareToLenChecks 63 = .ok (.invokevirtual 247, 3) := dk_182 0 247 (dk_at dksJ22_implSquareToLenChecks_2 16 rfl rfl)
theorem dJ22_implSquareToLenChecks_66 : decode cJ22_implSquareToLenChecks 66 = .ok (.aload_n 0, 1) := dk_42 (dk_at dksJ22_implSquareToLenChecks_2 19 rfl rfl)
theorem dJ22_implSquareToLenChecks_67 : decode cJ22_implSquareToLenChecks 67 = .ok (.arraylength, 1) := dk_190 (dk_at dksJ22_implSquareToLenChecks_2 20 rfl rfl)
theorem dJ22_implSquareToLenChecks_68 : decode cJ22_implSquareToLenChecks 68 = .ok (.invokevirtual 514, 3) := dk_182 2 2 (dk_at dksJ22_implSquareToLenChecks_2 21 rfl rfl)
theorem dJ22_implSquareToLenChecks_71 : decode cJ22_implSquareToLenChecks 71 = .ok (.invokevirtual 254, 3) := dk_182 0 254 (dk_at dksJ22_implSquareToLenChecks_3 0 rfl rfl)
theorem dJ22_implSquareToLenChecks_74 : decode cJ22_implSquareToLenChecks 74 = .ok (.invokespecial 149, 3) := dk_183 0 149 (dk_at dksJ22_implSquareToLenChecks_3 3 rfl rfl)
theorem dJ22_implSquareToLenChecks_77 : decode cJ22_implSquareToLenChecks 77 = .ok (.athrow, 1) := dk_191 (dk_at dksJ22_implSquareToLenChecks_3 6 rfl rfl)
theorem dJ22_implSquareToLenChecks_78 : decode cJ22_implSquareToLenChecks 78 = .ok (.iload_n 1, 1) := dk_27 (dk_at dksJ22_implSquareToLenChecks_3 7 rfl rfl)
theorem dJ22_implSquareToLenChecks_79 : decode cJ22_implSquareToLenChecks 79 = .ok (.iconst 2, 1) := dk_5 (dk_at dksJ22_implSquareToLenChecks_3 8 rfl rfl)
theorem dJ22_implSquareToLenChecks_80 : decode cJ22_implSquareToLenChecks 80 = .ok (.imul, 1) := dk_104 (dk_at dksJ22_implSquareToLenChecks_3 9 rfl rfl)
theorem dJ22_implSquareToLenChecks_81 : decode cJ22_implSquareToLenChecks 81 = .ok (.aload_n 2, 1) := dk_44 (dk_at dksJ22_implSquareToLenChecks_3 10 rfl rfl)
theorem dJ22_implSquareToLenChecks_82 : decode cJ22_implSquareToLenChecks 82 = .ok (.arraylength, 1) := dk_190 (dk_at dksJ22_implSquareToLenChecks_3 11 rfl rfl)
theorem dJ22_implSquareToLenChecks_83 : decode cJ22_implSquareToLenChecks 83 = .ok (.if_icmp .le 44, 3) := dk_164 0 44 (dk_at dksJ22_implSquareToLenChecks_3 12 rfl rfl)
theorem dJ22_implSquareToLenChecks_86 : decode cJ22_implSquareToLenChecks 86 = .ok (.new 145, 3) := dk_187 0 145 (dk_at dksJ22_implSquareToLenChecks_3 15 rfl rfl)
theorem dJ22_implSquareToLenChecks_89 : decode cJ22_implSquareToLenChecks 89 = .ok (.dup, 1) := dk_89 (dk_at dksJ22_implSquareToLenChecks_3 18 rfl rfl)
theorem dJ22_implSquareToLenChecks_90 : decode cJ22_implSquareToLenChecks 90 = .ok (.new 242, 3) := dk_187 0 242 (dk_at dksJ22_implSquareToLenChecks_3 19 rfl rfl)
theorem dJ22_implSquareToLenChecks_93 : decode cJ22_implSquareToLenChecks 93 = .ok (.dup, 1) := dk_89 (dk_at dksJ22_implSquareToLenChecks_3 22 rfl rfl)
theorem dJ22_implSquareToLenChecks_94 : decode cJ22_implSquareToLenChecks 94 = .ok (.invokespecial 244, 3) := dk_183 0 244 (dk_at dksJ22_implSquareToLenChecks_4 0 rfl rfl)
theorem dJ22_implSquareToLenChecks_97 : decode cJ22_implSquareToLenChecks 97 = .ok (.ldc_w 517, 3) := dk_19 2 5 (dk_at dksJ22_implSquareToLenChecks_4 3 rfl rfl)
theorem dJ22_implSquareToLenChecks_100 : decode cJ22_implSquareToLenChecks 100 = .ok (.invokevirtual 247, 3) := dk_182 0 247 (dk_at dksJ22_implSquareToLenChecks_4 6 rfl rfl)
theorem dJ22_implSquareToLenChecks_103 : decode cJ22_implSquareToLenChecks 103 = .ok (.iload_n 1, 1) := dk_27 (dk_at dksJ22_implSquareToLenChecks_4 9 rfl rfl)
theorem dJ22_implSquareToLenChecks_104 : decode cJ22_implSquareToLenChecks 104 = .ok (.iconst 2, 1) := dk_5 (dk_at dksJ22_implSquareToLenChecks_4 10 rfl rfl)
theorem dJ22_implSquareToLenChecks_105 : decode cJ22_implSquareToLenChecks 105 = .ok (.imul, 1) := dk_104 (dk_at dksJ22_implSquareToLenChecks_4 11 rfl rfl)
theorem dJ22_implSquareToLenChecks_106 : decode cJ22_implSquareToLenChecks 106 = .ok (.invokevirtual 514, 3) := dk_182 2 2 (dk_at dksJ22_implSquareToLenChecks_4 12 rfl rfl)
theorem dJ22_implSquareToLenChecks_109 : decode cJ22_implSquareToLenChecks 109 = .ok (.ldc_w 519, 3) := dk_19 2 7 (dk_at dksJ22_implSquareToLenChecks_4 15 rfl rfl)
theorem dJ22_implSquareToLenChecks_112 : decode cJ22_implSquareToLenChecks 112 = .ok (.invokevirtual 247, 3) := dk_182 0 247 (dk_at dksJ22_implSquareToLenChecks_4 18 rfl rfl)
theorem dJ22_implSquareToLenChecks_115 : decode cJ22_implSquareToLenChecks 115 = .ok (.aload_n 2, 1) := dk_44 (dk_at dksJ22_implSquareToLenChecks_4 21 rfl rfl)
theorem dJ22_implSquareToLenChecks_116 : decode cJ22_implSquareToLenChecks 116 = .ok (.arraylength, 1) := dk_190 (dk_at dksJ22_implSquareToLenChecks_4 22 rfl rfl)
theorem dJ22_implSquareToLenChecks_117 : decode cJ22_implSquareToLenChecks 117 = .ok (.invokevirtual 514, 3) := dk_182 2 2 (dk_at dksJ22_implSquareToLenChecks_5 0 rfl rfl)
theorem dJ22_implSquareToLenChecks_120 : decode cJ22_implSquareToLenChecks 120 = .ok (.invokevirtual 254, 3) := dk_182 0 254 (dk_at dksJ22_implSquareToLenChecks_5 3 rfl rfl)
theorem dJ22_implSquareToLenChecks_123 : decode cJ22_implSquareToLenChecks 123 = .ok (.invokespecial 149, 3) := dk_183 0 149 (dk_at dksJ22_implSquareToLenChecks_5 6 rfl rfl)
theorem dJ22_implSquareToLenChecks_126 : decode cJ22_implSquareToLenChecks 126 = .ok (.athrow, 1) := dk_191 (dk_at dksJ22_implSquareToLenChecks_5 9 rfl rfl)
theorem dJ22_implSquareToLenChecks_127 : decode cJ22_implSquareToLenChecks 127 = .ok (.iload_n 3, 1) := dk_29 (dk_at dksJ22_implSquareToLenChecks_5 10 rfl rfl)
theorem dJ22_implSquareToLenChecks_128 : decode cJ22_implSquareToLenChecks 128 = .ok (.iconst 1, 1) := dk_4 (dk_at dksJ22_implSquareToLenChecks_5 11 rfl rfl)
theorem dJ22_implSquareToLenChecks_129 : decode cJ22_implSquareToLenChecks 129 = .ok (.if_icmp .ge 31, 3) := dk_162 0 31 (dk_at dksJ22_implSquareToLenChecks_5 12 rfl rfl)
theorem dJ22_implSquareToLenChecks_132 : decode cJ22_implSquareToLenChecks 132 = .ok (.new 145, 3) := dk_187 0 145 (dk_at dksJ22_implSquareToLenChecks_5 15 rfl rfl)
theorem dJ22_implSquareToLenChecks_135 : decode cJ22_implSquareToLenChecks 135 = .ok (.dup, 1) := dk_89 (dk_at dksJ22_implSquareToLenChecks_5 18 rfl rfl)
theorem dJ22_implSquareToLenChecks_136 : decode cJ22_implSquareToLenChecks 136 = .ok (.new 242, 3) := dk_187 0 242 (dk_at dksJ22_implSquareToLenChecks_5 19 rfl rfl)
theorem dJ22_implSquareToLenChecks_139 : decode cJ22_implSquareToLenChecks 139 = .ok (.dup, 1) := dk_89 (dk_at dksJ22_implSquareToLenChecks_5 22 rfl rfl)
theorem dJ22_implSquareToLenChecks_140 : decode cJ22_implSquareToLenChecks 140 = .ok (.invokespecial 244, 3) := dk_183 0 244 (dk_at dksJ22_implSquareToLenChecks_6 0 rfl rfl)
theorem dJ22_implSquareToLenChecks_143 : decode cJ22_implSquareToLenChecks 143 = .ok (.ldc_w 512, 3) := dk_19 2 0 (dk_at dksJ22_implSquareToLenChecks_6 3 rfl rfl)
theorem dJ22_implSquareToLenChecks_146 : decode cJ22_implSquareToLenChecks 146 = .ok (.invokevirtual 247, 3) := dk_182 0 247 (dk_at dksJ22_implSquareToLenChecks_6 6 rfl rfl)
theorem dJ22_implSquareToLenChecks_149 : decode cJ22_implSquareToLenChecks 149 = .ok (.iload_n 3, 1) := dk_29 (dk_at dksJ22_implSquareToLenChecks_6 9 rfl rfl)
theorem dJ22_implSquareToLenChecks_150 : decode cJ22_implSquareToLenChecks 150 = .ok (.invokevirtual 514, 3) := dk_182 2 2 (dk_at dksJ22_implSquareToLenChecks_6 10 rfl rfl)
theorem dJ22_implSquareToLenChecks_153 : decode cJ22_implSquareToLenChecks 153 = .ok (.invokevirtual 254, 3) := dk_182 0 254 (dk_at dksJ22_implSquareToLenChecks_6 13 rfl rfl)
theorem dJ22_implSquareToLenChecks_156 : decode cJ22_implSquareToLenChecks 156 = .ok (.invokespecial 149, 3) := dk_183 0 149 (dk_at dksJ22_implSquareToLenChecks_6 16 rfl rfl)
theorem dJ22_implSquareToLenChecks_159 : decode cJ22_implSquareToLenChecks 159 = .ok (.athrow, 1) := dk_191 (dk_at dksJ22_implSquareToLenChecks_6 19 rfl rfl)
theorem dJ22_implSquareToLenChecks_160 : decode cJ22_implSquareToLenChecks 160 = .ok (.iload_n 3, 1) := dk_29 (dk_at dksJ22_implSquareToLenChecks_6 20 rfl rfl)
theorem dJ22_implSquareToLenChecks_161 : decode cJ22_implSquareToLenChecks 161 = .ok (.aload_n 2, 1) := dk_44 (dk_at dksJ22_implSquareToLenChecks_6 21 rfl rfl)
theorem dJ22_implSquareToLenChecks_162 : decode cJ22_implSquareToLenChecks 162 = .ok (.arraylength, 1) := dk_190 (dk_at dksJ22_implSquareToLenChecks_6 22 rfl rfl)
theorem dJ22_implSquareToLenChecks_163 : decode cJ22_implSquareToLenChecks 163 = .ok (.if_icmp .le 42, 3) := dk_164 0 42 (dk_at dksJ22_implSquareToLenChecks_7 0 rfl rfl)
theorem dJ22_implSquareToLenChecks_166 : decode cJ22_implSquareToLenChecks 166 = .ok (.new 145, 3) := dk_187 0 145 (dk_at dksJ22_implSquareToLenChecks_7 3 rfl rfl)
theorem dJ22_implSquareToLenChecks_169 : decode cJ22_implSquareToLenChecks 169 = .ok (.dup, 1) := dk_89 (dk_at dksJ22_implSquareToLenChecks_7 6 rfl rfl)
theorem dJ22_implSquareToLenChecks_170 : decode cJ22_implSquareToLenChecks 170 = .ok (.new 242, 3) := dk_187 0 242 (dk_at dksJ22_implSquareToLenChecks_7 7 rfl rfl)
theorem dJ22_implSquareToLenChecks_173 : decode cJ22_implSquareToLenChecks 173 = .ok (.dup, 1) := dk_89 (dk_at dksJ22_implSquareToLenChecks_7 10 rfl rfl)
theorem dJ22_implSquareToLenChecks_174 : decode cJ22_implSquareToLenChecks 174 = .ok (.invokespecial 244, 3) := dk_183 0 244 (dk_at dksJ22_implSquareToLenChecks_7 11 rfl rfl)
theorem dJ22_implSquareToLenChecks_177 : decode cJ22_implSquareToLenChecks 177 = .ok (.ldc_w 517, 3) := dk_19 2 5 (dk_at dksJ22_implSquareToLenChecks_7 14 rfl rfl)
theorem dJ22_implSquareToLenChecks_180 : decode cJ22_implSquareToLenChecks 180 = .ok (.invokevirtual 247, 3) := dk_182 0 247 (dk_at dksJ22_implSquareToLenChecks_7 17 rfl rfl)
theorem dJ22_implSquareToLenChecks_183 : decode cJ22_implSquareToLenChecks 183 = .ok (.iload_n 1, 1) := dk_27 (dk_at dksJ22_implSquareToLenChecks_7 20 rfl rfl)
theorem dJ22_implSquareToLenChecks_184 : decode cJ22_implSquareToLenChecks 184 = .ok (.invokevirtual 514, 3) := dk_182 2 2 (dk_at dksJ22_implSquareToLenChecks_7 21 rfl rfl)
theorem dJ22_implSquareToLenChecks_187 : decode cJ22_implSquareToLenChecks 187 = .ok (.ldc_w 519, 3) := dk_19 2 7 (dk_at dksJ22_implSquareToLenChecks_8 0 rfl rfl)
theorem dJ22_implSquareToLenChecks_190 : decode cJ22_implSquareToLenChecks 190 = .ok (.invokevirtual 247, 3) := dk_182 0 247 (dk_at dksJ22_implSquareToLenChecks_8 3 rfl rfl)
theorem dJ22_implSquareToLenChecks_193 : decode cJ22_implSquareToLenChecks 193 = .ok (.aload_n 2, 1) := dk_44 (dk_at dksJ22_implSquareToLenChecks_8 6 rfl rfl)
theorem dJ22_implSquareToLenChecks_194 : decode cJ22_implSquareToLenChecks 194 = .ok (.arraylength, 1) := dk_190 (dk_at dksJ22_implSquareToLenChecks_8 7 rfl rfl)
theorem dJ22_implSquareToLenChecks_195 : decode cJ22_implSquareToLenChecks 195 = .ok (.invokevirtual 514, 3) := dk_182 2 2 (dk_at dksJ22_implSquareToLenChecks_8 8 rfl rfl)
theorem dJ22_implSquareToLenChecks_198 : decode cJ22_implSquareToLenChecks 198 = .ok (.invokevirtual 254, 3) := dk_182 0 254 (dk_at dksJ22_implSquareToLenChecks_8 11 rfl rfl)
theorem dJ22_implSquareToLenChecks_201 : decode cJ22_implSquareToLenChecks 201 = .ok (.invokespecial 149, 3) := dk_183 0 149 (dk_at dksJ22_implSquareToLenChecks_8 14 rfl rfl)
theorem dJ22_implSquareToLenChecks_204 : decode cJ22_implSquareToLenChecks 204 = .ok (.athrow, 1) := dk_191 (dk_at dksJ22_implSquareToLenChecks_8 17 rfl rfl)
theorem dJ22_implSquareToLenChecks_205 : decode cJ22_implSquareToLenChecks 205 = .ok (.return_, 1) := dk_177 (dk_at dksJ22_implSquareToLenChecks_8 18 rfl rfl)
def dkwJ22_implSquareToLen_6 : List UInt8 := [46, 42, 27, 4, 100, 46, 4, 126, 128, 79, 44, 176]
abbrev dktJ22_implSquareToLen_6 : List UInt8 := dkwJ22_implSquareToLen_6 ++ []
def dkwJ22_implSquareToLen_5 : List UInt8 := [184, 2, 13, 87, 132, 5, 255, 132, 6, 2, 167, 255, 209, 44, 29, 4, 184, 2, 17, 44, 29, 4, 100, 92]
abbrev dktJ22_implSquareToLen_5 : List UInt8 := dkwJ22_implSquareToLen_5 ++ dktJ22_implSquareToLen_6
def dkwJ22_implSquareToLen_4 : List UInt8 := [21, 6, 21, 5, 4, 100, 21, 7, 184, 2, 9, 54, 7, 44, 21, 6, 4, 100, 21, 5, 21, 7]
abbrev dktJ22_implSquareToLen_4 : List UInt8 := dkwJ22_implSquareToLen_4 ++ dktJ22_implSquareToLen_5
def dkwJ22_implSquareToLen_3 : List UInt8 := [167, 255, 193, 27, 54, 5, 4, 54, 6, 21, 5, 158, 0, 48, 42, 21, 5, 4, 100, 46, 54, 7, 44, 42]
abbrev dktJ22_implSquareToLen_3 : List UInt8 := dkwJ22_implSquareToLen_3 ++ dktJ22_implSquareToLen_4
def dkwJ22_implSquareToLen_2 : List UInt8 := [125, 136, 128, 79, 44, 21, 6, 132, 6, 1, 22, 9, 4, 125, 136, 79, 22, 9, 136, 54, 4, 132, 5, 1]
abbrev dktJ22_implSquareToLen_2 : List UInt8 := dkwJ22_implSquareToLen_2 ++ dktJ22_implSquareToLen_3
def dkwJ22_implSquareToLen_1 : List UInt8 := [55, 7, 22, 7, 22, 7, 105, 55, 9, 44, 21, 6, 132, 6, 1, 21, 4, 16, 31, 120, 22, 9, 16, 33]
abbrev dktJ22_implSquareToLen_1 : List UInt8 := dkwJ22_implSquareToLen_1 ++ dktJ22_implSquareToLen_2
def dkwJ22_implSquareToLen_0 : List UInt8 := [3, 54, 4, 3, 54, 5, 3, 54, 6, 21, 5, 27, 162, 0, 63, 42, 21, 5, 46, 133, 20, 0, 130, 127]
abbrev dktJ22_implSquareToLen_0 : List UInt8 := dkwJ22_implSquareToLen_0 ++ dktJ22_implSquareToLen_1
theorem dksJ22_implSquareToLen_0 : cJ22_implSquareToLen.data.toList.drop 0 = dktJ22_implSquareToLen_0 := by decide +kernel
theorem dksJ22_implSquareToLen_1 : cJ22_implSquareToLen.data.toList.drop 24 = dktJ22_implSquareToLen_1 := dk_seg dksJ22_implSquareToLen_0 24 rfl rfl
theorem dksJ22_implSquareToLen_2 : cJ22_implSquareToLen.data.toList.drop 48 = dktJ22_implSquareToLen_2 := dk_seg dksJ22_implSquareToLen_1 24 rfl rfl
theorem dksJ22_implSquareToLen_3 : cJ22_implSquareToLen.data.toList.drop 72 = dktJ22_implSquareToLen_3 := dk_seg dksJ22_implSquareToLen_2 24 rfl rfl
theorem dksJ22_implSquareToLen_4 : cJ22_implSquareToLen.data.toList.drop 96 = dktJ22_implSquareToLen_4 := dk_seg dksJ22_implSquareToLen_3 24 rfl rfl
theorem dksJ22_implSquareToLen_5 : cJ22_implSquareToLen.data.toList.drop 118 = dktJ22_implSquareToLen_5 := dk_seg dksJ22_implSquareToLen_4 22 rfl rfl
theorem dksJ22_implSquareToLen_6 : cJ22_implSquareToLen.data.toList.drop 142 = dktJ22_implSquareToLen_6 := dk_seg dksJ22_implSquareToLen_5 24 rfl rfl
theorem dJ22_implSquareToLen_0 : decode cJ22_implSquareToLen 0 = .ok (.iconst 0, 1) := dk_3 (dk_at dksJ22_implSquareToLen_0 0 rfl rfl)
theorem dJ22_implSquareToLen_1 : decode cJ22_implSquareToLen 1 = .ok (.istore 4, 2) := dk_54 4 (dk_at dksJ22_implSquareToLen_0 1 rfl rfl)
theorem dJ22_implSquareToLen_3 : decode cJ22_implSquareToLen 3 = .ok (.iconst 0, 1) := dk_3 (dk_at dksJ22_implSquareToLen_0 3 rfl rfl)
theorem dJ22_implSquareToLen_4 : decode cJ22_implSquareToLen 4 = .ok (.istore 5, 2) := dk_54 5 (dk_at dksJ22_implSquareToLen_0 4 rfl rfl)
theorem dJ22_implSquareToLen_6 : decode cJ22_implSquareToLen 6 = .ok (.iconst 0, 1) := dk_3 (dk_at dksJ22_implSquareToLen_0 6 rfl rfl)
theorem dJ22_implSquareToLen_7 : decode cJ22_implSquareToLen 7 = .ok (.istore 6, 2) := dk_54 6 (dk_at dksJ22_implSquareToLen_0 7 rfl rfl)
theorem dJ22_implSquareToLen_9 : decode cJ22_implSquareToLen 9 = .ok (.iload 5, 2) := dk_21 5 (dk_at dksJ22_implSquareToLen_0 9 rfl rfl)
theorem dJ22_implSquareToLen_11 : decode cJ22_implSquareToLen 11 = .ok (.iload_n 1, 1) := dk_27 (dk_at dksJ22_implSquareToLen_0 11 rfl rfl)
theorem dJ22_implSquareToLen_12 : decode cJ22_implSquareToLen 12 = .ok (.if_icmp .ge 63, 3) := dk_162 0 63 (dk_at dksJ22_implSquareToLen_0 12 rfl rfl)
theorem dJ22_implSquareToLen_15 : decode cJ22_implSquareToLen 15 = .ok (.aload_n 0, 1) := dk_42 (dk_at dksJ22_implSquareToLen_0 15 rfl rfl)
theorem dJ22_implSquareToLen_16 : decode cJ22_implSquareToLen 16 = .ok (.iload 5, 2) := dk_21 5 (dk_at dksJ22_implSquareToLen_0 16 rfl rfl)
theorem dJ22_implSquareToLen_18 : decode cJ22_implSquareToLen 18 = .ok (.iaload, 1) := dk_46 (dk_at dksJ22_implSquareToLen_0 18 rfl rfl)
theorem dJ22_implSquareToLen_19 : decode cJ22_implSquareToLen 19 = .ok (.i2l, 1) := dk_133 (dk_at dksJ22_implSquareToLen_0 19 rfl rfl)
theorem dJ22_implSquareToLen_20 : decode cJ22_implSquareToLen 20 = .ok (.ldc2_w 130, 3) := dk_20 0 130 (dk_at dksJ22_implSquareToLen_0 20 rfl rfl)
theorem dJ22_implSquareToLen_23 : decode cJ22_implSquareToLen 23 = .ok (.land, 1) := dk_127 (dk_at dksJ22_implSquareToLen_0 23 rfl rfl)
theorem dJ22_implSquareToLen_24 : decode cJ22_implSquareToLen 24 = .ok (.lstore 7, 2) := dk_55 7 (dk_at dksJ22_implSquareToLen_1 0 rfl rfl)
theorem dJ22_implSquareToLen_26 : decode cJ22_implSquareToLen 26 = .ok (.lload 7, 2) := dk_22 7 (dk_at dksJ22_implSquareToLen_1 2 rfl rfl)
theorem dJ22_implSquareToLen_28 : decode cJ22_implSquareToLen 28 = .ok (.lload 7, 2) := dk_22 7 (dk_at dksJ22_implSquareToLen_1 4 rfl rfl)
theorem dJ22_implSquareToLen_30 : decode cJ22_implSquareToLen 30 = .ok (.lmul, 1) := dk_105 (dk_at dksJ22_implSquareToLen_1 6 rfl rfl)
theorem dJ22_implSquareToLen_31 : decode cJ22_implSquareToLen 31 = .ok (.lstore 9, 2) := dk_55 9 (dk_at dksJ22_implSquareToLen_1 7 rfl rfl)
theorem dJ22_implSquareToLen_33 : decode cJ22_implSquareToLen 33 = .ok (.aload_n 2, 1) := dk_44 (dk_at dksJ22_implSquareToLen_1 9 rfl rfl)
theorem dJ22_implSquareToLen_34 : decode cJ22_implSquareToLen 34 = .ok (.iload 6, 2) := dk_21 6 (dk_at dksJ22_implSquareToLen_1 10 rfl rfl)
theorem dJ22_implSquareToLen_36 : decode cJ22_implSquareToLen 36 = .ok (.iinc 6 1, 3) := dk_132 6 1 (dk_at dksJ22_implSquareToLen_1 12 rfl rfl)
theorem dJ22_implSquareToLen_39 : decode cJ22_implSquareToLen 39 = .ok (.iload 4, 2) := dk_21 4 (dk_at dksJ22_implSquareToLen_1 15 rfl rfl)
theorem dJ22_implSquareToLen_41 : decode cJ22_implSquareToLen 41 = .ok (.bipush 31, 2) := dk_16 31 (dk_at dksJ22_implSquareToLen_1 17 rfl rfl)
theorem dJ22_implSquareToLen_43 : decode cJ22_implSquareToLen 43 = .ok (.ishl, 1) := dk_120 (dk_at dksJ22_implSquareToLen_1 19 rfl rfl)
theorem dJ22_implSquareToLen_44 : decode cJ22_implSquareToLen 44 = .ok (.lload 9, 2) := dk_22 9 (dk_at dksJ22_implSquareToLen_1 20 rfl rfl)
theorem dJ22_implSquareToLen_46 : decode cJ22_implSquareToLen 46 = .ok (.bipush 33, 2) := dk_16 33 (dk_at dksJ22_implSquareToLen_1 22 rfl rfl)
theorem dJ22_implSquareToLen_48 : decode cJ22_implSquareToLen 48 = .ok (.lushr, 1) := dk_125 (dk_at dksJ22_implSquareToLen_2 0 rfl rfl)
theorem dJ22_implSquareToLen_49 : decode cJ22_implSquareToLen 49 = .ok (.l2i, 1) := dk_136 (dk_at dksJ22_implSquareToLen_2 1 rfl rfl)
theorem dJ22_implSquareToLen_50 : decode cJ22_implSquareToLen 50 = .ok (.ior, 1) := dk_128 (dk_at dksJ22_implSquareToLen_2 2 rfl rfl)
theorem dJ22_implSquareToLen_51 : decode cJ22_implSquareToLen 51 = .ok (.iastore, 1) := dk_79 (dk_at dksJ22_implSquareToLen_2 3 rfl rfl)
theorem dJ22_implSquareToLen_52 : decode cJ22_implSquareToLen 52 = .ok (.aload_n 2, 1) := dk_44 (dk_at dksJ22_implSquareToLen_2 4 rfl rfl)
theorem dJ22_implSquareToLen_53 : decode cJ22_implSquareToLen 53 = .ok (.iload 6, 2) := dk_21 6 (dk_at dksJ22_implSquareToLen_2 5 rfl rfl)
theorem dJ22_implSquareToLen_55 : decode cJ22_implSquareToLen 55 = .ok (.iinc 6 1, 3) := dk_132 6 1 (dk_at dksJ22_implSquareToLen_2 7 rfl rfl)
theorem dJ22_implSquareToLen_58 : decode cJ22_implSquareToLen 58 = .ok (.lload 9, 2) := dk_22 9 (dk_at dksJ22_implSquareToLen_2 10 rfl rfl)
theorem dJ22_implSquareToLen_60 : decode cJ22_implSquareToLen 60 = .ok (.iconst 1, 1) := dk_4 (dk_at dksJ22_implSquareToLen_2 12 rfl rfl)
theorem dJ22_implSquareToLen_61 : decode cJ22_implSquareToLen 61 = .ok (.lushr, 1) := dk_125 (dk_at dksJ22_implSquareToLen_2 13 rfl rfl)
theorem dJ22_implSquareToLen_62 : decode cJ22_implSquareToLen 62 = .ok (.l2i, 1) := dk_136 (dk_at dksJ22_implSquareToLen_2 14 rfl rfl)
theorem dJ22_implSquareToLen_63 : decode cJ22_implSquareToLen 63 = .ok (.iastore, 1) := dk_79 (dk_at dksJ22_implSquareToLen_2 15 rfl rfl)
theorem dJ22_implSquareToLen_64 : decode cJ22_implSquareToLen 64 = .ok (.lload 9, 2) := dk_22 9 (dk_at dksJ22_implSquareToLen_2 16 rfl rfl)
theorem dJ22_implSquareToLen_66 : decode cJ22_implSquareToLen 66 = .ok (.l2i, 1) := dk_136 (dk_at dksJ22_implSquareToLen_2 18 rfl rfl)
theorem dJ22_implSquareToLen_67 : decode cJ22_implSquareToLen 67 = .ok (.istore 4, 2) := dk_54 4 (dk_at dksJ22_implSquareToLen_2 19 rfl rfl)
theorem dJ22_implSquareToLen_69 : decode cJ22_implSquareToLen 69 = .ok (.iinc 5 1, 3) := dk_132 5 1 (dk_at dksJ22_implSquareToLen_2 21 rfl rfl)
theorem dJ22_implSquareToLen_72 : decode cJ22_implSquareToLen 72 = .ok (.goto (-63), 3) := dk_167 255 193 (dk_at dksJ22_implSquareToLen_3 0 rfl rfl)
theorem dJ22_implSquareToLen_75 : decode cJ22_implSquareToLen 75 = .ok (.iload_n 1, 1) := dk_27 (dk_at dksJ22_implSquareToLen_3 3 rfl rfl)
theorem dJ22_implSquareToLen_76 : decode cJ22_implSquareToLen 76 = .ok (.istore 5, 2) := dk_54 5 (dk_at dksJ22_implSquareToLen_3 4 rfl rfl)
theorem dJ22_implSquareToLen_78 : decode cJ22_implSquareToLen 78 = .ok (.iconst 1, 1) := dk_4 (dk_at dksJ22_implSquareToLen_3 6 rfl rfl)
theorem dJ22_implSquareToLen_79 : decode cJ22_implSquareToLen 79 = .ok (.istore 6, 2) := dk_54 6 (dk_at dksJ22_implSquareToLen_3 7 rfl rfl)
theorem dJ22_implSquareToLen_81 : decode cJ22_implSquareToLen 81 = .ok (.iload 5, 2) := dk_21 5 (dk_at dksJ22_implSquareToLen_3 9 rfl rfl)
theorem dJ22_implSquareToLen_83 : decode cJ22_implSquareToLen 83 = .ok (.ifCond .le 48, 3) := dk_158 0 48 (dk_at dksJ22_implSquareToLen_3 11 rfl rfl)
theorem dJ22_implSquareToLen_86 : decode cJ22_implSquareToLen 86 = .ok (.aload_n 0, 1) := dk_42 (dk_at dksJ22_implSquareToLen_3 14 rfl rfl)
theorem dJ22_implSquareToLen_87 : decode cJ22_implSquareToLen 87 = .ok (.iload 5, 2) := dk_21 5 (dk_at dksJ22_implSquareToLen_3 15 rfl rfl)
theorem dJ22_implSquareToLen_89 : decode cJ22_implSquareToLen 89 = .ok (.iconst 1, 1) := dk_4 (dk_at dksJ22_implSquareToLen_3 17 rfl rfl)
theorem dJ22_implSquareToLen_90 : decode cJ22_implSquareToLen 90 = .ok (.isub, 1) := dk_100 (dk_at dksJ22_implSquareToLen_3 18 rfl rfl)
theorem dJ22_implSquareToLen_91 : decode cJ22_implSquareToLen 91 = .ok (.iaload, 1) := dk_46 (dk_at dksJ22_implSquareToLen_3 19 rfl rfl)
theorem dJ22_implSquareToLen_92 : decode cJ22_implSquareToLen 92 = .ok (.istore 7, 2) := dk_54 7 (dk_at dksJ22_implSquareToLen_3 20 rfl rfl)
theorem dJ22_implSquareToLen_94 : decode cJ22_implSquareToLen 94 = .ok (.aload_n 2, 1) := dk_44 (dk_at dksJ22_implSquareToLen_3 22 rfl rfl)
theorem dJ22_implSquareToLen_95 : decode cJ22_implSquareToLen 95 = .ok (.aload_n 0, 1) := dk_42 (dk_at dksJ22_implSquareToLen_3 23 rfl rfl)
theorem dJ22_implSquareToLen_96 : decode cJ22_implSquareToLen 96 = .ok (.iload 6, 2) := dk_21 6 (dk_at dksJ22_implSquareToLen_4 0 rfl rfl)
theorem dJ22_implSquareToLen_98 : decode cJ22_implSquareToLen 98 = .ok (.iload 5, 2) := dk_21 5 (dk_at dksJ22_implSquareToLen_4 2 rfl rfl)
theorem dJ22_implSquareToLen_100 : decode cJ22_implSquareToLen 100 = .ok (.iconst 1, 1) := dk_4 (dk_at dksJ22_implSquareToLen_4 4 rfl rfl)
theorem dJ22_implSquareToLen_101 : decode cJ22_implSquareToLen 101 = .ok (.isub, 1) := dk_100 (dk_at dksJ22_implSquareToLen_4 5 rfl rfl)
theorem dJ22_implSquareToLen_102 : decode cJ22_implSquareToLen 102 = .ok (.iload 7, 2) := dk_21 7 (dk_at dksJ22_implSquareToLen_4 6 rfl rfl)
theorem dJ22_implSquareToLen_104 : decode cJ22_implSquareToLen 104 = .ok (.invokestatic 521, 3) := dk_184 2 9 (dk_at dksJ22_implSquareToLen_4 8 rfl rfl)
theorem dJ22_implSquareToLen_107 : decode cJ22_implSquareToLen 107 = .ok (.istore 7, 2) := dk_54 7 (dk_at dksJ22_implSquareToLen_4 11 rfl rfl)
theorem dJ22_implSquareToLen_109 : decode cJ22_implSquareToLen 109 = .ok (.aload_n 2, 1) := dk_44 (dk_at dksJ22_implSquareToLen_4 13 rfl rfl)
theorem dJ22_implSquareToLen_110 : decode cJ22_implSquareToLen 110 = .ok (.iload 6, 2) := dk_21 6 (dk_at dksJ22_implSquareToLen_4 14 rfl rfl)
theorem dJ22_implSquareToLen_112 : decode cJ22_implSquareToLen 112 = .ok (.iconst 1, 1) := dk_4 (dk_at dksJ22_implSquareToLen_4 16 rfl rfl)
theorem dJ22_implSquareToLen_113 : decode cJ22_implSquareToLen 113 = .ok (.isub, 1) := dk_100 (dk_at dksJ22_implSquareToLen_4 17 rfl rfl)
theorem dJ22_implSquareToLen_114 : decode cJ22_implSquareToLen 114 = .ok (.iload 5, 2) := dk_21 5 (dk_at dksJ22_implSquareToLen_4 18 rfl rfl)
theorem dJ22_implSquareToLen_116 : decode cJ22_implSquareToLen 116 = .ok (.iload 7, 2) := dk_21 7 (dk_at dksJ22_implSquareToLen_4 20 rfl rfl)
theorem dJ22_implSquareToLen_118 : decode cJ22_implSquareToLen 118 = .ok (.invokestatic 525, 3) := dk_184 2 13 (dk_at dksJ22_implSquareToLen_5 0 rfl rfl)
theorem dJ22_implSquareToLen_121 : decode cJ22_implSquareToLen 121 = .ok (.pop, 1) := dk_87 (dk_at dksJ22_implSquareToLen_5 3 rfl rfl)
theorem dJ22_implSquareToLen_122 : decode cJ22_implSquareToLen 122 = .ok (.iinc 5 (-1), 3) := dk_132 5 255 (dk_at dksJ22_implSquareToLen_5 4 rfl rfl)
theorem dJ22_implSquareToLen_125 : decode cJ22_implSquareToLen 125 = .ok (.iinc 6 2, 3) := dk_132 6 2 (dk_at dksJ22_implSquareToLen_5 7 rfl rfl)
theorem dJ22_implSquareToLen_128 : decode cJ22_implSquareToLen 128 = .ok (.goto (-47), 3) := dk_167 255 209 (dk_at dksJ22_implSquareToLen_5 10 rfl rfl)
theorem dJ22_implSquareToLen_131 : decode cJ22_implSquareToLen 131 = .ok (.aload_n 2, 1) := dk_44 (dk_at dksJ22_implSquareToLen_5 13 rfl rfl)
theorem dJ22_implSquareToLen_132 : decode cJ22_implSquareToLen 132 = .ok (.iload_n 3, 1) := dk_29 (dk_at dksJ22_implSquareToLen_5 14 rfl rfl)
theorem dJ22_implSquareToLen_133 : decode cJ22_implSquareToLen 133 = .ok (.iconst 1, 1) := dk_4 (dk_at dksJ22_implSquareToLen_5 15 rfl rfl)
theorem dJ22_implSquareToLen_134 : decode cJ22_implSquareToLen 134 = .ok (.invokestatic 529, 3) := dk_184 2 17 (dk_at dksJ22_implSquareToLen_5 16 rfl rfl)
theorem dJ22_implSquareToLen_137 : decode cJ22_implSquareToLen 137 = .ok (.aload_n 2, 1) := dk_44 (dk_at dksJ22_implSquareToLen_5 19 rfl rfl)
theorem dJ22_implSquareToLen_138 : decode cJ22_implSquareToLen 138 = .ok (.iload_n 3, 1) := dk_29 (dk_at dksJ22_implSquareToLen_5 20 rfl rfl)
theorem dJ22_implSquareToLen_139 : decode cJ22_implSquareToLen 139 = .ok (.iconst 1, 1) := dk_4 (dk_at dksJ22_implSquareToLen_5 21 rfl rfl)
theorem dJ22_implSquareToLen_140 : decode cJ22_implSquareToLen 140 = .ok (.isub, 1) := dk_100 (dk_at dksJ22_implSquareToLen_5 22 rfl rfl)
theorem dJ22_implSquareToLen_141 : decode cJ22_implSquareToLen 141 = .ok (.dup2, 1) := dk_92 (dk_at dksJ22_implSquareToLen_5 23 rfl rfl)
theorem dJ22_implSquareToLen_142 : decode cJ22_implSquareToLen 142 = .ok (.iaload, 1) := dk_46 (dk_at dksJ22_implSquareToLen_6 0 rfl rfl)
theorem dJ22_implSquareToLen_143 : decode cJ22_implSquareToLen 143 = .ok (.aload_n 0, 1) := dk_42 (dk_at dksJ22_implSquareToLen_6 1 rfl rfl)
theorem dJ22_implSquareToLen_144 : decode cJ22_implSquareToLen 144 = .ok (.iload_n 1, 1) := dk_27 (dk_at dksJ22_implSquareToLen_6 2 rfl rfl)
theorem dJ22_implSquareToLen_145 : decode cJ22_implSquareToLen 145 = .ok (.iconst 1, 1) := dk_4 (dk_at dksJ22_implSquareToLen_6 3 rfl rfl)
theorem dJ22_implSquareToLen_146 : decode cJ22_implSquareToLen 146 = .ok (.isub, 1) := dk_100 (dk_at dksJ22_implSquareToLen_6 4 rfl rfl)
theorem dJ22_implSquareToLen_147 : decode cJ22_implSquareToLen 147 = .ok (.iaload, 1) := dk_46 (dk_at dksJ22_implSquareToLen_6 5 rfl rfl)
theorem dJ22_implSquareToLen_148 : decode cJ22_implSquareToLen 148 = .ok (.iconst 1, 1) := dk_4 (dk_at dksJ22_implSquareToLen_6 6 rfl rfl)
theorem dJ22_implSquareToLen_149 : decode cJ22_implSquareToLen 149 = .ok (.iand, 1) := dk_126 (dk_at dksJ22_implSquareToLen_6 7 rfl rfl)
theorem dJ22_implSquareToLen_150 : decode cJ22_implSquareToLen 150 = .ok (.ior, 1) := dk_128 (dk_at dksJ22_implSquareToLen_6 8 rfl rfl)
theorem dJ22_implSquareToLen_151 : decode cJ22_implSquareToLen 151 = .ok (.iastore, 1) := dk_79 (dk_at dksJ22_implSquareToLen_6 9 rfl rfl)
theorem dJ22_implSquareToLen_152 : decode cJ22_implSquareToLen 152 = .ok (.aload_n 2, 1) := dk_44 (dk_at dksJ22_implSquareToLen_6 10 rfl rfl)
theorem dJ22_implSquareToLen_153 : decode cJ22_implSquareToLen 153 = .ok (.areturn, 1) := dk_176 (dk_at dksJ22_implSquareToLen_6 11 rfl rfl)
def dkwJ22_squareToLen_1 : List UInt8 := [184, 1, 248, 42, 27, 44, 29, 184, 1, 252, 176]
abbrev dktJ22_squareToLen_1 : List UInt8 := dkwJ22_squareToLen_1 ++ []
def dkwJ22_squareToLen_0 : List UInt8 := [27, 4, 120, 62, 44, 198, 0, 9, 44, 190, 29, 162, 0, 7, 29, 188, 10, 77, 42, 27, 44, 29]
abbrev dktJ22_squareToLen_0 : List UInt8 := dkwJ22_squareToLen_0 ++ dktJ22_squareToLen_1
theorem dksJ22_squareToLen_0 : cJ22_squareToLen.data.toList.drop 0 = dktJ22_squareToLen_0 := by decide +kernel
theorem dksJ22_squareToLen_1 : cJ22_squareToLen.data.toList.drop 22 = dktJ22_squareToLen_1 := dk_seg dksJ22_squareToLen_0 22 rfl rfl
theorem dJ22_squareToLen_0 : decode cJ22_squareToLen 0 = .ok (.iload_n 1, 1) := dk_27 (dk_at dksJ22_squareToLen_0 0 rfl rfl)
theorem dJ22_squareToLen_1 : decode cJ22_squareToLen 1 = .ok (.iconst 1, 1) := dk_4 (dk_at dksJ22_squareToLen_0 1 rfl rfl)
theorem dJ22_squareToLen_2 : decode cJ22_squareToLen 2 = .ok (.ishl, 1) := dk_120 (dk_at dksJ22_squareToLen_0 2 rfl rfl)
theorem dJ22_squareToLen_3 : decode cJ22_squareToLen 3 = .ok (.istore_n 3, 1) := dk_62 (dk_at dksJ22_squareToLen_0 3 rfl rfl)
theorem dJ22_squareToLen_4 : decode cJ22_squareToLen 4 = .ok (.aload_n 2, 1) := dk_44 (dk_at dksJ22_squareToLen_0 4 rfl rfl)
theorem dJ22_squareToLen_5 : decode cJ22_squareToLen 5 = .ok (.ifnull 9, 3) := dk_198 0 9 (dk_at dksJ22_squareToLen_0 5 rfl rfl)
theorem dJ22_squareToLen_8 : decode cJ22_squareToLen 8 = .ok (.aload_n 2, 1) := dk_44 (dk_at dksJ22_squareToLen_0 8 rfl rfl)
theorem dJ22_squareToLen_9 : decode cJ22_squareToLen 9 = .ok (.arraylength, 1) := dk_190 (dk_at dksJ22_squareToLen_0 9 rfl rfl)
theorem dJ22_squareToLen_10 : decode cJ22_squareToLen 10 = .ok (.iload_n 3, 1) := dk_29 (dk_at dksJ22_squareToLen_0 10 rfl rfl)
theorem dJ22_squareToLen_11 : decode cJ22_squareToLen 11 = .ok (.if_icmp .ge 7, 3) := dk_162 0 7 (dk_at dksJ22_squareToLen_0 11 rfl rfl)
theorem dJ22_squareToLen_14 : decode cJ22_squareToLen 14 = .ok (.iload_n 3, 1) := dk_29 (dk_at dksJ22_squareToLen_0 14 rfl rfl)
theorem dJ22_squareToLen_15 : decode cJ22_squareToLen 15 = .ok (.newarray .int, 2) := dk_188_10 (dk_at dksJ22_squareToLen_0 15 rfl rfl)
theorem dJ22_squareToLen_17 : decode cJ22_squareToLen 17 = .ok (.astore_n 2, 1) := dk_77 (dk_at dksJ22_squareToLen_0 17 rfl rfl)
theorem dJ22_squareToLen_18 : decode cJ22_squareToLen 18 = .ok (.aload_n 0, 1) := dk_42 (dk_at dksJ22_squareToLen_0 18 rfl rfl)
theorem dJ22_squareToLen_19 : decode cJ22_squareToLen 19 = .ok (.iload_n 1, 1) := dk_27 (dk_at dksJ22_squareToLen_0 19 rfl rfl)
theorem dJ22_squareToLen_20 : decode cJ22_squareToLen 20 = .ok (.aload_n 2, 1) := dk_44 (dk_at dksJ22_squareToLen_0 20 rfl rfl)
theorem dJ22_squareToLen_21 : decode cJ22_squareToLen 21 = .ok (.iload_n 3, 1) := dk_29 (dk_at dksJ22_squareToLen_0 21 rfl rfl)
theorem dJ22_squareToLen_22 : decode cJ22_squareToLen 22 = .ok (.invokestatic 504, 3) := dk_184 1 248 (dk_at dksJ22_squareToLen_1 0 rfl rfl)
theorem dJ22_squareToLen_25 : decode cJ22_squareToLen 25 = .ok (.aload_n 0, 1) := dk_42 (dk_at dksJ22_squareToLen_1 3 rfl rfl)
theorem dJ22_squareToLen_26 : decode cJ22_squareToLen 26 = .ok (.iload_n 1, 1) := dk_27 (dk_at dksJ22_squareToLen_1 4 rfl rfl)
theorem dJ22_squareToLen_27 : decode cJ22_squareToLen 27 = .ok (.aload_n 2, 1) := dk_44 (dk_at dksJ22_squareToLen_1 5 rfl rfl)
theorem dJ22_squareToLen_28 : decode cJ22_squareToLen 28 = .ok (.iload_n 3, 1) := dk_29 (dk_at dksJ22_squareToLen_1 6 rfl rfl)
theorem dJ22_squareToLen_29 : decode cJ22_squareToLen 29 = .ok (.invokestatic 508, 3) := dk_184 1 252 (dk_at dksJ22_squareToLen_1 7 rfl rfl)
theorem dJ22_squareToLen_32 : decode cJ22_squareToLen 32 = .ok (.areturn, 1) := dk_176 (dk_at dksJ22_squareToLen_1 10 rfl rfl)
def dkwJ22_square_4 : List UInt8 := [29, 182, 1, 244, 176]
abbrev dktJ22_square_4 : List UInt8 := dkwJ22_square_4 ++ []
def dkwJ22_square_3 : List UInt8 := [180, 0, 28, 42, 180, 0, 28, 190, 184, 1, 158, 133, 20, 1, 242, 148, 158, 0, 6, 184, 0, 101, 42, 28]
abbrev dktJ22_square_3 : List UInt8 := dkwJ22_square_3 ++ dktJ22_square_4
def dkwJ22_square_2 : List UInt8 := [4, 183, 0, 175, 176, 21, 4, 17, 0, 216, 162, 0, 8, 42, 182, 1, 239, 176, 27, 154, 0, 26, 42]
abbrev dktJ22_square_2 : List UInt8 := dkwJ22_square_2 ++ dktJ22_square_3
def dkwJ22_square_1 : List UInt8 := [162, 0, 29, 42, 180, 0, 28, 21, 4, 1, 184, 1, 235, 58, 5, 187, 0, 23, 89, 25, 5, 184, 0, 53]
abbrev dktJ22_square_1 : List UInt8 := dkwJ22_square_1 ++ dktJ22_square_2
def dkwJ22_square_0 : List UInt8 := [42, 180, 0, 32, 154, 0, 7, 178, 0, 22, 176, 42, 180, 0, 28, 190, 54, 4, 21, 4, 17, 0, 128]
abbrev dktJ22_square_0 : List UInt8 := dkwJ22_square_0 ++ dktJ22_square_1
theorem dksJ22_square_0 : cJ22_square.data.toList.drop 0 = dktJ22_square_0 := by decide +kernel
theorem dksJ22_square_1 : cJ22_square.data.toList.drop 23 = dktJ22_square_1 := dk_seg dksJ22_square_0 23 rfl rfl
theorem dksJ22_square_2 : cJ22_square.data.toList.drop 47 = dktJ22_square_2 := dk_seg dksJ22_square_1 24 rfl rfl
theorem dksJ22_square_3 : cJ22_square.data.toList.drop 70 = dktJ22_square_3 := dk_seg dksJ22_square_2 23 rfl rfl
theorem dksJ22_square_4 : cJ22_square.data.toList.drop 94 = dktJ22_square_4 := dk_seg dksJ22_square_3 24 rfl rfl
theorem dJ22_square_0 : decode cJ22_square 0 = .ok (.aload_n 0, 1) := dk_42 (dk_at dksJ22_square_0 0 rfl rfl)
theorem dJ22_square_1 : decode cJ22_square 1 = .ok (.getfield 32, 3) := dk_180 0 32 (dk_at dksJ22_square_0 1 rfl rfl)
theorem dJ22_square_4 : decode cJ22_square 4 = .ok (.ifCond .ne 7, 3) := dk_154 0 7 (dk_at dksJ22_square_0 4 rfl rfl)
theorem dJ22_square_7 : decode cJ22_square 7 = .ok (.getstatic 22, 3) := dk_178 0 22 (dk_at dksJ22_square_0 7 rfl rfl)
theorem dJ22_square_10 : decode cJ22_square 10 = .ok (.areturn, 1) := dk_176 (dk_at dksJ22_square_0 10 rfl rfl)
theorem dJ22_square_11 : decode cJ22_square 11 = .ok (.aload_n 0, 1) := dk_42 (dk_at dksJ22_square_0 11 rfl rfl)
theorem dJ22_square_12 : decode cJ22_square 12 = .ok (.getfield 28, 3) := dk_180 0 28 (dk_at dksJ22_square_0 12 rfl rfl)
theorem dJ22_square_15 : decode cJ22_square 15 = .ok (.arraylength, 1) := dk_190 (dk_at dksJ22_square_0 15 rfl rfl)
theorem dJ22_square_16 : decode cJ22_square 16 = .ok (.istore 4, 2) := dk_54 4 (dk_at dksJ22_square_0 16 rfl rfl)
theorem dJ22_square_18 : decode cJ22_square 18 = .ok (.iload 4, 2) := dk_21 4 (dk_at dksJ22_square_0 18 rfl rfl)
theorem dJ22_square_20 : decode cJ22_square 20 = .ok (.sipush 128, 3) := dk_17 0 128 (dk_at dksJ22_square_0 20 rfl rfl)
theorem dJ22_square_23 : decode cJ22_square 23 = .ok (.if_icmp .ge 29, 3) := dk_162 0 29 (dk_at dksJ22_square_1 0 rfl rfl)
theorem dJ22_square_26 : decode cJ22_square 26 = .ok (.aload_n 0, 1) := dk_42 (dk_at dksJ22_square_1 3 rfl rfl)
theorem dJ22_square_27 : decode cJ22_square 27 = .ok (.getfield 28, 3) := dk_180 0 28 (dk_at dksJ22_square_1 4 rfl rfl)
theorem dJ22_square_30 : decode cJ22_square 30 = .ok (.iload 4, 2) := dk_21 4 (dk_at dksJ22_square_1 7 rfl rfl)
theorem dJ22_square_32 : decode cJ22_square 32 = .ok (.aconst_null, 1) := dk_1 (dk_at dksJ22_square_1 9 rfl rfl)
theorem dJ22_square_33 : decode cJ22_square 33 = .ok (.invokestatic 491, 3) := dk_184 1 235 (dk_at dksJ22_square_1 10 rfl rfl)
theorem dJ22_square_36 : decode cJ22_square 36 = .ok (.astore 5, 2) := dk_58 5 (dk_at dksJ22_square_1 13 rfl rfl)
theorem dJ22_square_38 : decode cJ22_square 38 = .ok (.new 23, 3) := dk_187 0 23 (dk_at dksJ22_square_1 15 rfl rfl)
theorem dJ22_square_41 : decode cJ22_square 41 = .ok (.dup, 1) := dk_89 (dk_at dksJ22_square_1 18 rfl rfl)
theorem dJ22_square_42 : decode cJ22_square 42 = .ok (.aload 5, 2) := dk_25 5 (dk_at dksJ22_square_1 19 rfl rfl)
theorem dJ22_square_44 : decode cJ22_square 44 = .ok (.invokestatic 53, 3) := dk_184 0 53 (dk_at dksJ22_square_1 21 rfl rfl)
theorem dJ22_square_47 : decode cJ22_square 47 = .ok (.iconst 1, 1) := dk_4 (dk_at dksJ22_square_2 0 rfl rfl)
theorem dJ22_square_48 : decode cJ22_square 48 = .ok (.invokespecial 175, 3) := dk_183 0 175 (dk_at dksJ22_square_2 1 rfl rfl)
theorem dJ22_square_51 : decode cJ22_square 51 = .ok (.areturn, 1) := dk_176 (dk_at dksJ22_square_2 4 rfl rfl)
theorem dJ22_square_52 : decode cJ22_square 52 = .ok (.iload 4, 2) := dk_21 4 (dk_at dksJ22_square_2 5 rfl rfl)
theorem dJ22_square_54 : decode cJ22_square 54 = .ok (.sipush 216, 3) := dk_17 0 216 (dk_at dksJ22_square_2 7 rfl rfl)
theorem dJ22_square_57 : decode cJ22_square 57 = .ok (.if_icmp .ge 8, 3) := dk_162 0 8 (dk_at dksJ22_square_2 10 rfl rfl)
theorem dJ22_square_60 : decode cJ22_square 60 = .ok (.aload_n 0, 1) := dk_42 (dk_at dksJ22_square_2 13 rfl rfl)
theorem dJ22_square_61 : decode cJ22_square 61 = .ok (.invokevirtual 495, 3) := dk_182 1 239 (dk_at dksJ22_square_2 14 rfl rfl)
theorem dJ22_square_64 : decode cJ22_square 64 = .ok (.areturn, 1) := dk_176 (dk_at dksJ22_square_2 17 rfl rfl)
theorem dJ22_square_65 : decode cJ22_square 65 = .ok (.iload_n 1, 1) := dk_27 (dk_at dksJ22_square_2 18 rfl rfl)
theorem dJ22_square_66 : decode cJ22_square 66 = .ok (.ifCond .ne 26, 3) := dk_154 0 26 (dk_at dksJ22_square_2 19 rfl rfl)
theorem dJ22_square_69 : decode cJ22_square 69 = .ok (.aload_n 0, 1) := dk_42 (dk_at dksJ22_square_2 22 rfl rfl)
theorem dJ22_square_70 : decode cJ22_square 70 = .ok (.getfield 28, 3) := dk_180 0 28 (dk_at dksJ22_square_3 0 rfl rfl)
theorem dJ22_square_73 : decode cJ22_square 73 = .ok (.aload_n 0, 1) := dk_42 (dk_at dksJ22_square_3 3 rfl rfl)
theorem dJ22_square_74 : decode cJ22_square 74 = .ok (.getfield 28, 3) := dk_180 0 28 (dk_at dksJ22_square_3 4 rfl rfl)
theorem dJ22_square_77 : decode cJ22_square 77 = .ok (.arraylength, 1) := dk_190 (dk_at dksJ22_square_3 7 rfl rfl)
theorem dJ22_square_78 : decode cJ22_square 78 = .ok (.invokestatic 414, 3) := dk_184 1 158 (dk_at dksJ22_square_3 8 rfl rfl)
theorem dJ22_square_81 : decode cJ22_square 81 = .ok (.i2l, 1) := dk_133 (dk_at dksJ22_square_3 11 rfl rfl)
theorem dJ22_square_82 : decode cJ22_square 82 = .ok (.ldc2_w 498, 3) := dk_20 1 242 (dk_at dksJ22_square_3 12 rfl rfl)
theorem dJ22_square_85 : decode cJ22_square 85 = .ok (.lcmp, 1) := dk_148 (dk_at dksJ22_square_3 15 rfl rfl)
theorem dJ22_square_86 : decode cJ22_square 86 = .ok (.ifCond .le 6, 3) := dk_158 0 6 (dk_at dksJ22_square_3 16 rfl rfl)
theorem dJ22_square_89 : decode cJ22_square 89 = .ok (.invokestatic 101, 3) := dk_184 0 101 (dk_at dksJ22_square_3 19 rfl rfl)
theorem dJ22_square_92 : decode cJ22_square 92 = .ok (.aload_n 0, 1) := dk_42 (dk_at dksJ22_square_3 22 rfl rfl)
theorem dJ22_square_93 : decode cJ22_square 93 = .ok (.iload_n 2, 1) := dk_28 (dk_at dksJ22_square_3 23 rfl rfl)
theorem dJ22_square_94 : decode cJ22_square 94 = .ok (.iload_n 3, 1) := dk_29 (dk_at dksJ22_square_4 0 rfl rfl)
theorem dJ22_square_95 : decode cJ22_square 95 = .ok (.invokevirtual 500, 3) := dk_182 1 244 (dk_at dksJ22_square_4 1 rfl rfl)
theorem dJ22_square_98 : decode cJ22_square 98 = .ok (.areturn, 1) := dk_176 (dk_at dksJ22_square_4 4 rfl rfl)
def dkwJ22_square_2_0 : List UInt8 := [42, 3, 3, 3, 182, 1, 144, 176]
abbrev dktJ22_square_2_0 : List UInt8 := dkwJ22_square_2_0 ++ []
theorem dksJ22_square_2_0 : cJ22_square_2.data.toList.drop 0 = dktJ22_square_2_0 := by decide +kernel
theorem dJ22_square_2_0 : decode cJ22_square_2 0 = .ok (.aload_n 0, 1) := dk_42 (dk_at dksJ22_square_2_0 0 rfl rfl)
theorem dJ22_square_2_1 : decode cJ22_square_2 1 = .ok (.iconst 0, 1) := dk_3 (dk_at dksJ22_square_2_0 1 rfl rfl)
theorem dJ22_square_2_2 : decode cJ22_square_2 2 = .ok (.iconst 0, 1) := dk_3 (dk_at dksJ22_square_2_0 2 rfl rfl)
theorem dJ22_square_2_3 : decode cJ22_square_2 3 = .ok (.iconst 0, 1) := dk_3 (dk_at dksJ22_square_2_0 3 rfl rfl)
theorem dJ22_square_2_4 : decode cJ22_square_2 4 = .ok (.invokevirtual 400, 3) := dk_182 1 144 (dk_at dksJ22_square_2_0 4 rfl rfl)
theorem dJ22_square_2_7 : decode cJ22_square_2 7 = .ok (.areturn, 1) := dk_176 (dk_at dksJ22_square_2_0 7 rfl rfl)
theorem yd_J22_addOne : yJ22_addOne.cls ≠ "java/lang/invoke/MethodHandle" ∧ yJ22_addOne.cls ≠ "java/lang/invoke/VarHandle" ∧ (parseMethodDescriptor yJ22_addOne.desc).map (fun d => d.parameters.length) = some 4 := by decide +kernel
theorem yd_J22_implSquareToLen : yJ22_implSquareToLen.cls ≠ "java/lang/invoke/MethodHandle" ∧ yJ22_implSquareToLen.cls ≠ "java/lang/invoke/VarHandle" ∧ (parseMethodDescriptor yJ22_implSquareToLen.desc).map (fun d => d.parameters.length) = some 4 := by decide +kernel
theorem yd_J22_implSquareToLenChecks : yJ22_implSquareToLenChecks.cls ≠ "java/lang/invoke/MethodHandle" ∧ yJ22_implSquareToLenChecks.cls ≠ "java/lang/invoke/VarHandle" ∧ (parseMethodDescriptor yJ22_implSquareToLenChecks.desc).map (fun d => d.parameters.length) = some 4 := by decide +kernel
theorem yd_J22_mulAdd : yJ22_mulAdd.cls ≠ "java/lang/invoke/MethodHandle" ∧ yJ22_mulAdd.cls ≠ "java/lang/invoke/VarHandle" ∧ (parseMethodDescriptor yJ22_mulAdd.desc).map (fun d => d.parameters.length) = some 5 := by decide +kernel
theorem yd_J22_primitiveLeftShift : yJ22_primitiveLeftShift.cls ≠ "java/lang/invoke/MethodHandle" ∧ yJ22_primitiveLeftShift.cls ≠ "java/lang/invoke/VarHandle" ∧ (parseMethodDescriptor yJ22_primitiveLeftShift.desc).map (fun d => d.parameters.length) = some 3 := by decide +kernel
theorem ydv_J22_square : yJ22_square.cls = "java/math/BigInteger" ∧ yJ22_square.cls ≠ "java/lang/invoke/MethodHandle" ∧ yJ22_square.cls ≠ "java/lang/invoke/VarHandle" ∧ (parseMethodDescriptor yJ22_square.desc).map (fun d => d.parameters.length) = some 3 := by decide +kernel
theorem yd_J22_squareToLen : yJ22_squareToLen.cls ≠ "java/lang/invoke/MethodHandle" ∧ yJ22_squareToLen.cls ≠ "java/lang/invoke/VarHandle" ∧ (parseMethodDescriptor yJ22_squareToLen.desc).map (fun d => d.parameters.length) = some 3 := by decide +kernel
/-! ### squares -/
theorem lN_shr33 {a : Nat} (h : a < 18446744073709551616) : ((lN a).toUInt64 >>> (((33 : Int32)).toInt64.toUInt64 &&& Int64.toUInt64 63)).toInt64 = lN (a / 8589934592) := by
  have e : (((33 : Int32)).toInt64.toUInt64 &&& Int64.toUInt64 63) = 33 := by decide
  rw [e, lN_u h]
  apply Int64.toBitVec_inj.mp
  apply BitVec.eq_of_toNat_eq
  show ((UInt64.ofNat a) >>> (33 : UInt64)).toNat = (BitVec.ofNat 64 _).toNat
  rw [UInt64.toNat_shiftRight, u_tn h, BitVec.toNat_ofNat, Nat.shiftRight_eq_div_pow]
  show a / 2 ^ 33 = _
  have : a / 8589934592 ≤ a := Nat.div_le_self _ _
  omega
theorem lN_shr1 {a : Nat} (h : a < 18446744073709551616) : ((lN a).toUInt64 >>> (((1 : Int32)).toInt64.toUInt64 &&& Int64.toUInt64 63)).toInt64 = lN (a / 2) := by
  have e : (((1 : Int32)).toInt64.toUInt64 &&& Int64.toUInt64 63) = 1 := by decide
  rw [e, lN_u h]
  apply Int64.toBitVec_inj.mp
  apply BitVec.eq_of_toNat_eq
  show ((UInt64.ofNat a) >>> (1 : UInt64)).toNat = (BitVec.ofNat 64 _).toNat
  rw [UInt64.toNat_shiftRight, u_tn h, BitVec.toNat_ofNat, Nat.shiftRight_eq_div_pow]
  show a / 2 ^ 1 = _
  omega
theorem sq_hi {w b : Nat} (hb : b < 2147483648) : nI (w * 2147483648) ||| nI b = nI (w % 2 * 2147483648 + b) := by
  have e : (w * 2 ^ 31) % 4294967296 = w % 2 * 2147483648 := by omega
  rw [← nI_mod (w * 2147483648), nI_or _ _ (Nat.mod_lt _ (by decide)) (by omega), show w * 2147483648 = w * 2 ^ 31 from rfl, or_add (s := 31) (by decide) hb, e]
theorem or_bit {a b : Nat} (ha : a < 4294967296) (h2 : a % 2 = 0) (hb : b < 2) : nI a ||| nI b = nI (a + b) := by
  rw [nI_or a b ha (by omega)]
  congr 1
  obtain ⟨c, rfl⟩ : ∃ c, a = 2 ^ 1 * c := ⟨a / 2, by omega⟩
  exact (Nat.two_pow_add_eq_or_of_lt (by omega) _).symm
/-- the squares of digits alone; twice the products of different digits -/
def sqs (d : Nat → Nat) : Nat → Nat
  | 0 => 0
  | j + 1 => sqs d j * (4294967296 * 4294967296) + d j * d j
def odg (d : Nat → Nat) : Nat → Nat
  | 0 => 0
  | j + 1 => odg d j * (4294967296 * 4294967296) + 2 * (seg d 0 j * d j) * 4294967296
theorem sq_all (d : Nat → Nat) : ∀ j, seg d 0 j * seg d 0 j = sqs d j + odg d j
  | 0 => rfl
  | j + 1 => by
    have ih := sq_all d j
    rw [seg_r, Nat.zero_add]
    show _ = sqs d j * (4294967296 * 4294967296) + d j * d j + (odg d j * (4294967296 * 4294967296) + 2 * (seg d 0 j * d j) * 4294967296)
    grind
theorem sq_step {zz d : Nat → Nat} {j lw P : Nat} (hP : P = d j * d j) (hP9 : P < 18446744073709551616) (h : 2 * seg zz 0 (2 * j) + lw % 2 = sqs d j) :
    2 * seg (dup (dup zz (2 * j) ((lw % 2 * 2147483648 + P / 8589934592) % 4294967296)) (2 * j + 1) (P / 2 % 4294967296)) 0 (2 * (j + 1)) + P % 2 = sqs d (j + 1) := by
  rw [show 2 * (j + 1) = 2 * j + 1 + 1 by omega, seg_r, seg_r, Nat.zero_add, Nat.zero_add, dup_s, dup_n (show 2 * j ≠ 2 * j + 1 by omega), dup_s, seg_cg (e := zz) (fun i h1 h2 => by rw [dup_n (by omega), dup_n (by omega)])]
  show _ = sqs d j * (4294967296 * 4294967296) + d j * d j
  rw [← h, ← hP, Nat.mod_eq_of_lt (show lw % 2 * 2147483648 + P / 8589934592 < 4294967296 by omega)]
  generalize seg zz 0 (2 * j) = Z at *
  omega
theorem sq_par (x : Nat) : (x * x) % 2 = x % 2 := by
  rw [Nat.mul_mod]
  rcases Nat.mod_two_eq_zero_or_one x with h | h <;> rw [h]
/-- one row of products more -/
theorem sq_row {g gg ga d : Nat → Nat} {n i kk lw : Nat} (hi : 1 ≤ i) (hin : i ≤ n) (hm : seg gg i (i - 1) + kk * 4294967296 ^ (i - 1) = seg g i (i - 1) + d (i - 1) * seg d 0 (i - 1)) (hgo : ∀ j, (j < i ∨ 2 * i - 1 ≤ j) → gg j = g j)
    (ha : seg ga 0 i = seg gg 0 i + kk) (hao : ∀ j, i - 1 < j → ga j = gg j) (h : 2 * seg g 0 (2 * n) + lw % 2 + odg d i * 4294967296 ^ (2 * (n - i)) = seg d 0 n * seg d 0 n) :
    2 * seg ga 0 (2 * n) + lw % 2 + odg d (i - 1) * 4294967296 ^ (2 * (n - (i - 1))) = seg d 0 n * seg d 0 n := by
  rw [← h]
  obtain ⟨j, rfl⟩ : ∃ j, i = j + 1 := ⟨i - 1, by omega⟩
  rw [show odg d (j + 1) = odg d j * (4294967296 * 4294967296) + 2 * (seg d 0 j * d j) * 4294967296 from rfl]
  rw [Nat.add_sub_cancel] at *
  have e1 : ∀ f : Nat → Nat, seg f 0 (2 * n) = (seg f 0 (j + 1) * 4294967296 ^ j + seg f (j + 1) j) * 4294967296 ^ (2 * (n - (j + 1)) + 1) + seg f (2 * j + 1) (2 * (n - (j + 1)) + 1) := by
    intro f
    rw [show 2 * n = (j + 1) + (j + (2 * (n - (j + 1)) + 1)) by omega, seg_app f 0 (j + 1) (j + (2 * (n - (j + 1)) + 1)), Nat.zero_add, seg_app f (j + 1) j (2 * (n - (j + 1)) + 1), show j + 1 + j = 2 * j + 1 by omega, Nat.pow_add 4294967296 j]
    generalize 4294967296 ^ (2 * (n - (j + 1)) + 1) = Q
    grind
  rw [e1 ga, e1 g, ha, seg_cg (d := ga) (e := gg) (o := j + 1) (t := j) (fun i h1 h2 => hao i (by omega)), seg_cg (d := ga) (e := g) (o := 2 * j + 1) (fun i h1 h2 => by rw [hao i (by omega), hgo i (by omega)]), seg_cg (d := gg) (e := g) (o := 0) (t := j + 1) (fun i h1 h2 => hgo i (by omega)), show 2 * (n - j) = 2 * (n - (j + 1)) + 2 by omega, show 4294967296 ^ (2 * (n - (j + 1)) + 2) = 4294967296 ^ (2 * (n - (j + 1))) * (4294967296 * 4294967296) by rw [Nat.pow_add], show 4294967296 ^ (2 * (n - (j + 1)) + 1) = 4294967296 ^ (2 * (n - (j + 1))) * 4294967296 by rw [Nat.pow_succ]]
  generalize seg gg (j + 1) j = A1 at *
  generalize seg g (j + 1) j = A2 at *
  generalize seg g 0 (j + 1) = A3 at *
  generalize seg g (2 * j + 1) (2 * (n - (j + 1)) + 1) = A4 at *
  generalize seg d 0 j = X at *
  generalize 4294967296 ^ (2 * (n - (j + 1))) = Q at *
  generalize 4294967296 ^ j = R at *
  generalize odg d j = O at *
  generalize lw % 2 = W at *
  generalize d j = D at *
  clear ha e1 h
  grind
theorem sq_ov {gg d : Nat → Nat} {n i kk lw : Nat} (hd : ∀ j, d j < 4294967296) (hi : 1 ≤ i) (hin : i ≤ n) (g : Nat → Nat) (hm : seg gg i (i - 1) + kk * 4294967296 ^ (i - 1) = seg g i (i - 1) + d (i - 1) * seg d 0 (i - 1)) (hgo : ∀ j, (j < i ∨ 2 * i - 1 ≤ j) → gg j = g j)
    (h : 2 * seg g 0 (2 * n) + lw % 2 + odg d i * 4294967296 ^ (2 * (n - i)) = seg d 0 n * seg d 0 n) : seg gg 0 i + kk < 4294967296 ^ i := by
  have hX := seg_lt hd 0 n
  have hXX : seg d 0 n * seg d 0 n < 4294967296 ^ (2 * n) := by
    rw [show 2 * n = n + n by omega, Nat.pow_add]
    exact Nat.mul_lt_mul'' hX hX
  obtain ⟨j, rfl⟩ : ∃ j, i = j + 1 := ⟨i - 1, by omega⟩
  rw [show odg d (j + 1) = odg d j * (4294967296 * 4294967296) + 2 * (seg d 0 j * d j) * 4294967296 from rfl] at h
  rw [Nat.add_sub_cancel] at *
  have e1 : seg g 0 (2 * n) = (seg g 0 (j + 1) * 4294967296 ^ j + seg g (j + 1) j) * 4294967296 ^ (2 * (n - (j + 1)) + 1) + seg g (2 * j + 1) (2 * (n - (j + 1)) + 1) := by
    rw [show 2 * n = (j + 1) + (j + (2 * (n - (j + 1)) + 1)) by omega, seg_app g 0 (j + 1) (j + (2 * (n - (j + 1)) + 1)), Nat.zero_add, seg_app g (j + 1) j (2 * (n - (j + 1)) + 1), show j + 1 + j = 2 * j + 1 by omega, Nat.pow_add 4294967296 j]
    generalize 4294967296 ^ (2 * (n - (j + 1)) + 1) = Q
    grind
  rw [e1] at h
  rw [seg_cg (d := gg) (e := g) (o := 0) (t := j + 1) (fun i h1 h2 => hgo i (by omega))]
  refine Decidable.byContradiction fun q => ?_
  have e2 : 4294967296 ^ (2 * n) = 4294967296 ^ (j + 1) * (4294967296 ^ j * (4294967296 ^ (2 * (n - (j + 1))) * 4294967296)) := by
    rw [← Nat.pow_succ, ← Nat.pow_add, ← Nat.pow_add]
    congr 1
    omega
  have h3 : 4294967296 ^ (j + 1) * (4294967296 ^ j * (4294967296 ^ (2 * (n - (j + 1))) * 4294967296)) ≤ (seg g 0 (j + 1) + kk) * (4294967296 ^ j * (4294967296 ^ (2 * (n - (j + 1))) * 4294967296)) := Nat.mul_le_mul_right _ (by omega)
  have h4 : (seg g 0 (j + 1) + kk) * (4294967296 ^ j * (4294967296 ^ (2 * (n - (j + 1))) * 4294967296)) ≤ seg d 0 n * seg d 0 n := by
    rw [← h, Nat.pow_succ]
    generalize seg gg (j + 1) j = A1 at *
    generalize seg g (j + 1) j = A2 at *
    generalize seg g 0 (j + 1) = A3 at *
    generalize seg g (2 * j + 1) (2 * (n - (j + 1)) + 1) = A4 at *
    generalize seg d 0 j = X at *
    generalize 4294967296 ^ (2 * (n - (j + 1))) = Q at *
    generalize 4294967296 ^ j = R at *
    generalize odg d j = O at *
    generalize lw % 2 = W at *
    generalize d j = D at *
    have e5 : kk * R ≤ A2 + D * X := by omega
    have e6 := Nat.mul_le_mul_right (Q * 4294967296) e5
    have e7 : 2 * ((A3 * R + A2) * (Q * 4294967296) + A4) + W + (O * (4294967296 * 4294967296) + 2 * (X * D) * 4294967296) * Q = (A3 * R * (Q * 4294967296) + (A2 + D * X) * (Q * 4294967296)) + (A3 * R * (Q * 4294967296) + (A2 + D * X) * (Q * 4294967296)) + 2 * A4 + W + O * (4294967296 * 4294967296) * Q := by grind
    have e8 : (A3 + kk) * (R * (Q * 4294967296)) = A3 * R * (Q * 4294967296) + kk * R * (Q * 4294967296) := by grind
    rw [e7, e8]
    omega
  omega

set_option maxHeartbeats 1000000 in
theorem m_primShl (l : Launch) (z : State) (H0 : Heap) (a : Nat) (n : Nat) (d : Nat → Nat) (hn0 : 0 < n) (hn9 : n < 1000000) (hd : ∀ i, d i < 4294967296) (hA : gI z true .int H0 a n (dI d)) : Met l yJ22_primitiveLeftShift (ws_ yJ22_primitiveLeftShift cJ22_primitiveLeftShift 3 (none)) { frames := 2, cells := 0, slots := 0, locals := 45 } (gPc z H0 [.ref a, .int (nI n), .int 1]) (gRv (fun q => q = a) H0 (fun H1 => ∃ ee, (∀ i, ee i < 4294967296) ∧ gI z true .int H1 a n (dI ee) ∧ d 0 / 2 ^ (32 - 1) * 4294967296 ^ n + seg ee 0 n = seg d 0 n * 2 ^ 1)) 0 0 (fun q => q = a) := by
  refine g_start (by decide +kernel) (Nat.le_of_ble_eq_true rfl) ?_
  intro p e s m below meth c ls hx hb hr hlocks hml hown hname hts hwm hl
  have hown : s.vm.findClass "java/math/BigInteger" = some m.cls := hown
  have hal : z.vm.Alike s.vm := hwm.alike
  have hCF : CallFix p m c cJ22_primitiveLeftShift 3 s [.ref a, .int (nI n), .int 1].toArray lw_all "java/math/BigInteger" := ⟨hx, hb, hml, hown, hts⟩
  have hl : lv_has ls 3 [(0, .ref a), (1, .int (nI n)), (2, .int 1)] := hl
  have hS : va_S (fun q => q = a) H0 H0 [] := va_S.rf
  have lt_a := hA.lt
  refine lv_iload_n hx hb dJ22_primitiveLeftShift_0 rfl (lv_at hl 1 rfl) ?_
  refine lv_if_eq (tgt := 8) hx hb dJ22_primitiveLeftShift_1 (by decide) (fun c_1 => False.elim (by
    have c_1 := (ai_eq (a := n) (b := 0) (rfl) (rfl) (by omega) (by omega)).mp c_1
    omega)) (fun c_1 => ?_)
  have c_1 := mt (ai_eq (a := n) (b := 0) (rfl) (rfl) (by omega) (by omega)).mpr c_1
  refine lv_iload_n hx hb dJ22_primitiveLeftShift_4 rfl (lv_at hl 2 rfl) ?_
  refine lv_if_ne (tgt := 9) hx hb dJ22_primitiveLeftShift_5 (by decide) (fun c_5 => ?_) (fun c_5 => absurd c_5 (by decide))
  refine lv_iconst (v := 0) hx hb dJ22_primitiveLeftShift_9 (by decide) ?_
  refine lv_iload_n hx hb dJ22_primitiveLeftShift_10 rfl (lv_at hl 1 rfl) ?_
  refine lv_aload_n hx hb dJ22_primitiveLeftShift_11 rfl (lv_at hl 0 rfl) ?_
  refine gw_len hx hb hal hA dJ22_primitiveLeftShift_12 ?_
  refine gcS3_iP hCF hwm hl.1 (m_objCheck l z H0  0 n n (by omega) (Nat.le_refl _) (by omega) ) (lw_S q1248 q630 q81 q631) yd_J20_checkFromToIndex ⟨Nat.le_of_ble_eq_true rfl, Nat.le_of_ble_eq_true rfl⟩ ⟨Nat.le_of_ble_eq_true rfl, Nat.le_of_ble_eq_true rfl⟩ (Nat.le_of_ble_eq_true rfl) dJ22_primitiveLeftShift_13 (fun r_1 hp => ?_)
  subst hp
  refine lv_pop hx hb dJ22_primitiveLeftShift_16 rfl ?_
  refine lv_aload_n hx hb dJ22_primitiveLeftShift_17 rfl (lv_at hl 0 rfl) ?_
  refine lv_aload_n hx hb dJ22_primitiveLeftShift_18 rfl (lv_at hl 0 rfl) ?_
  refine lv_iconst (v := 0) hx hb dJ22_primitiveLeftShift_19 (by decide) ?_
  refine lv_iload_n hx hb dJ22_primitiveLeftShift_20 rfl (lv_at hl 2 rfl) ?_
  refine lv_iload_n hx hb dJ22_primitiveLeftShift_21 rfl (lv_at hl 1 rfl) ?_
  refine lv_iconst (v := 1) hx hb dJ22_primitiveLeftShift_22 (by decide) ?_
  refine lv_isub hx hb dJ22_primitiveLeftShift_23 ?_
  refine g_topi (v := nI (n - 1)) (ai_sub (a := n) (b := 1) (rfl) (rfl) (by omega)) ?_
  have hsz := hS.1
  refine gcS5_v hCF hwm hl.1 (m_shlSelf l z H0 a 1 (n - 1) n d (by decide) (by decide) (by omega) (by omega) hd hA ) (lw_S q1249 q1250 q83 q1251) yd_J22_shiftLeftImplWorker hS (fun q h => by have hsz := hS.1; (try dsimp only [gfr] at h ⊢) <;> omega) ⟨Nat.le_of_ble_eq_true rfl, Nat.le_of_ble_eq_true rfl⟩ ⟨Nat.le_of_ble_eq_true rfl, Nat.le_of_ble_eq_true rfl⟩ (Nat.le_of_ble_eq_true rfl) dJ22_primitiveLeftShift_24 (fun H_2 locs hp hex hS => ?_)
  have sz_H_2 : H0.size ≤ H_2.size := hex.1
  have hA3 := hp
  have lt_a := hA3.lt
  refine lv_aload_n hx hb dJ22_primitiveLeftShift_27 rfl (lv_at hl 0 rfl) ?_
  refine lv_iload_n hx hb dJ22_primitiveLeftShift_28 rfl (lv_at hl 1 rfl) ?_
  refine lv_iconst (v := 1) hx hb dJ22_primitiveLeftShift_29 (by decide) ?_
  refine lv_isub hx hb dJ22_primitiveLeftShift_30 ?_
  refine g_topi (v := nI (n - 1)) (ai_sub (a := n) (b := 1) (rfl) (rfl) (by omega)) ?_
  refine lv_dup2_11 hx hb dJ22_primitiveLeftShift_31 rfl rfl ?_
  refine gw_iald hx hb hal hA3 (n - 1) (rfl) (by omega) (by omega) dJ22_primitiveLeftShift_32 ?_
  refine g_topi (v := (nI ((wi d 1 (n - 1)) (n - 1)))) rfl ?_
  refine g_topi (v := (nI (d (n - 1)))) (by rw [wi_ge (Nat.le_refl _)]) ?_
  refine lv_iload_n hx hb dJ22_primitiveLeftShift_33 rfl (lv_at hl 2 rfl) ?_
  refine lv_ishl hx hb dJ22_primitiveLeftShift_34 ?_
  refine g_topi (v := nI ((d (n - 1)) * 2)) (ai_shl (rfl) 1 (by decide) rfl) ?_
  refine gw_iast (f := (dI (wi d 1 (n - 1)))) hx hb hal hA3 hS (by have hsz := hS.1; (try dsimp only [gfr]) <;> omega) (n - 1) (rfl) (by omega) (by omega) dJ22_primitiveLeftShift_35 (fun H_4 locs h_new hch hS => ?_)
  have sz_H_4 := hch.1
  clear hch
  have hA3 : gI z true .int H_4 a n (upd (dI (wi d 1 (n - 1))) (n - 1) (nI ((d (n - 1)) * 2))) := h_new
  replace hA3 : gI z true .int H_4 a n (dI (dup (wi d 1 (n - 1)) (n - 1) (((d (n - 1)) * 2) % 4294967296))) := by
    have q := hA3
    rw [dI_put] at q
    exact q
  have bd_5 : ∀ i, (dup (wi d 1 (n - 1)) (n - 1) (((d (n - 1)) * 2) % 4294967296)) i < 4294967296 := dup_lt (wi_lt hd (by decide) (by decide)) (Nat.mod_lt _ (by decide))
  refine g_vret hx hb hr hlocks hS (Nat.le_of_ble_eq_true rfl) (Nat.le_of_ble_eq_true rfl) ?_ dJ22_primitiveLeftShift_36
  refine ⟨_, bd_5, hA3, ?_⟩
  rw [wi_end (s := 1) hn0]
  exact shl_val hd (by decide) n n 0 (by omega) hn0
set_option maxHeartbeats 1000000 in
theorem m_sqChk (l : Launch) (z : State) (H0 : Heap) (x : Nat) (zr : Nat) (n : Nat) (w : Bool) (d : Nat → Nat) (hzx : zr ≠ x) (hn0 : 0 < n) (hn9 : n < 100000) (hd : ∀ i, d i < 4294967296) (hZ : gI z true .int H0 zr (2 * n) (dI (fun _ => 0))) (hX : gI z w .int H0 x n (dI d)) : Met l yJ22_implSquareToLenChecks (ws_ yJ22_implSquareToLenChecks cJ22_implSquareToLenChecks 4 (none)) { frames := 0, cells := 0, slots := 0, locals := 0 } (gPc z H0 [.ref x, .int (nI n), .ref zr, .int (nI (2 * n))]) (gPv H0 (True)) 0 0 gno := by
  refine g_start (by decide +kernel) (Nat.le_of_ble_eq_true rfl) ?_
  intro p e s m below meth c ls hx hb hr hlocks hml hown hname hts hwm hl
  have hown : s.vm.findClass "java/math/BigInteger" = some m.cls := hown
  have hal : z.vm.Alike s.vm := hwm.alike
  have hCF : CallFix p m c cJ22_implSquareToLenChecks 4 s [.ref x, .int (nI n), .ref zr, .int (nI (2 * n))].toArray lw_all "java/math/BigInteger" := ⟨hx, hb, hml, hown, hts⟩
  have hl : lv_has ls 4 [(0, .ref x), (1, .int (nI n)), (2, .ref zr), (3, .int (nI (2 * n)))] := hl
  refine lv_iload_n hx hb dJ22_implSquareToLenChecks_0 rfl (lv_at hl 1 rfl) ?_
  refine lv_iconst (v := 1) hx hb dJ22_implSquareToLenChecks_1 (by decide) ?_
  refine lv_icmp_ge (tgt := 33) hx hb dJ22_implSquareToLenChecks_2 (by decide) (fun c_2 => ?_) (fun c_2 => False.elim (by
    have c_2 := mt (ai_le (a := 1) (b := n) (rfl) (rfl) (by omega) (by omega)).mpr c_2
    omega))
  have c_2 := (ai_le (a := 1) (b := n) (rfl) (rfl) (by omega) (by omega)).mp c_2
  refine lv_iload_n hx hb dJ22_implSquareToLenChecks_33 rfl (lv_at hl 1 rfl) ?_
  refine lv_aload_n hx hb dJ22_implSquareToLenChecks_34 rfl (lv_at hl 0 rfl) ?_
  refine gw_len hx hb hal hX dJ22_implSquareToLenChecks_35 ?_
  refine lv_icmp_le (tgt := 78) hx hb dJ22_implSquareToLenChecks_36 (by decide) (fun c_36 => ?_) (fun c_36 => False.elim (by
    have c_36 := mt (ai_le (a := n) (b := n) (rfl) (rfl) (by omega) (by omega)).mpr c_36
    omega))
  have c_36 := (ai_le (a := n) (b := n) (rfl) (rfl) (by omega) (by omega)).mp c_36
  refine lv_iload_n hx hb dJ22_implSquareToLenChecks_78 rfl (lv_at hl 1 rfl) ?_
  refine lv_iconst (v := 2) hx hb dJ22_implSquareToLenChecks_79 (by decide) ?_
  refine lv_imul hx hb dJ22_implSquareToLenChecks_80 ?_
  refine g_topi (v := nI (n * 2)) (ai_mul (a := n) (b := 2) (rfl) (rfl)) ?_
  refine lv_aload_n hx hb dJ22_implSquareToLenChecks_81 rfl (lv_at hl 2 rfl) ?_
  refine gw_len hx hb hal hZ dJ22_implSquareToLenChecks_82 ?_
  refine lv_icmp_le (tgt := 127) hx hb dJ22_implSquareToLenChecks_83 (by decide) (fun c_83 => ?_) (fun c_83 => False.elim (by
    have c_83 := mt (ai_le (a := (n * 2)) (b := (2 * n)) (rfl) (rfl) (by omega) (by omega)).mpr c_83
    omega))
  have c_83 := (ai_le (a := (n * 2)) (b := (2 * n)) (rfl) (rfl) (by omega) (by omega)).mp c_83
  refine lv_iload_n hx hb dJ22_implSquareToLenChecks_127 rfl (lv_at hl 3 rfl) ?_
  refine lv_iconst (v := 1) hx hb dJ22_implSquareToLenChecks_128 (by decide) ?_
  refine lv_icmp_ge (tgt := 160) hx hb dJ22_implSquareToLenChecks_129 (by decide) (fun c_129 => ?_) (fun c_129 => False.elim (by
    have c_129 := mt (ai_le (a := 1) (b := (2 * n)) (rfl) (rfl) (by omega) (by omega)).mpr c_129
    omega))
  have c_129 := (ai_le (a := 1) (b := (2 * n)) (rfl) (rfl) (by omega) (by omega)).mp c_129
  refine lv_iload_n hx hb dJ22_implSquareToLenChecks_160 rfl (lv_at hl 3 rfl) ?_
  refine lv_aload_n hx hb dJ22_implSquareToLenChecks_161 rfl (lv_at hl 2 rfl) ?_
  refine gw_len hx hb hal hZ dJ22_implSquareToLenChecks_162 ?_
  refine lv_icmp_le (tgt := 205) hx hb dJ22_implSquareToLenChecks_163 (by decide) (fun c_163 => ?_) (fun c_163 => False.elim (by
    have c_163 := mt (ai_le (a := (2 * n)) (b := (2 * n)) (rfl) (rfl) (by omega) (by omega)).mpr c_163
    omega))
  have c_163 := (ai_le (a := (2 * n)) (b := (2 * n)) (rfl) (rfl) (by omega) (by omega)).mp c_163
  refine g_vretP hx hb hr hlocks ?_ dJ22_implSquareToLenChecks_205
  trivial
set_option maxHeartbeats 1000000 in
theorem m_sq6 (l : Launch) (z : State) (H0 : Heap) (x : Nat) (zr : Nat) (n : Nat) (w : Bool) (d : Nat → Nat) (hzx : zr ≠ x) (hn0 : 0 < n) (hn9 : n < 100000) (hd : ∀ i, d i < 4294967296) (hZ : gI z true .int H0 zr (2 * n) (dI (fun _ => 0))) (hX : gI z w .int H0 x n (dI d)) : Met l yJ22_implSquareToLen (ws_ yJ22_implSquareToLen cJ22_implSquareToLen 11 (some (.array .int))) { frames := 3, cells := 0, slots := 0, locals := 67 } (gPc z H0 [.ref x, .int (nI n), .ref zr, .int (nI (2 * n))]) (gRr (fun q => q = zr) H0 (fun r H1 => r = zr ∧ ∃ ee, (∀ i, ee i < 4294967296) ∧ gI z true .int H1 zr (2 * n) (dI ee) ∧ val ee (2 * n) = val d n * val d n)) 0 0 (fun q => q = zr) := by
  refine g_start (by decide +kernel) (Nat.le_of_ble_eq_true rfl) ?_
  intro p e s m below meth c ls hx hb hr hlocks hml hown hname hts hwm hl
  have hown : s.vm.findClass "java/math/BigInteger" = some m.cls := hown
  have hal : z.vm.Alike s.vm := hwm.alike
  have hCF : CallFix p m c cJ22_implSquareToLen 11 s [.ref x, .int (nI n), .ref zr, .int (nI (2 * n))].toArray lw_all "java/math/BigInteger" := ⟨hx, hb, hml, hown, hts⟩
  have hl : lv_has ls 11 [(0, .ref x), (1, .int (nI n)), (2, .ref zr), (3, .int (nI (2 * n)))] := hl
  have hS : va_S (fun q => q = zr) H0 H0 [] := va_S.rf
  have lt_zr := hZ.lt
  have lt_x := hX.lt
  refine lv_iconst (v := 0) hx hb dJ22_implSquareToLen_0 (by decide) ?_
  refine lv_istore hx hb dJ22_implSquareToLen_1 hl (by decide) rfl (fun ls hl => ?_)
  have hl : lv_has ls 11 [(4, .int 0), (0, .ref x), (1, .int (nI n)), (2, .ref zr), (3, .int (nI (2 * n)))] := hl
  refine lv_iconst (v := 0) hx hb dJ22_implSquareToLen_3 (by decide) ?_
  refine lv_istore hx hb dJ22_implSquareToLen_4 hl (by decide) rfl (fun ls hl => ?_)
  have hl : lv_has ls 11 [(5, .int 0), (4, .int 0), (0, .ref x), (1, .int (nI n)), (2, .ref zr), (3, .int (nI (2 * n)))] := hl
  refine lv_iconst (v := 0) hx hb dJ22_implSquareToLen_6 (by decide) ?_
  refine lv_istore hx hb dJ22_implSquareToLen_7 hl (by decide) rfl (fun ls hl => ?_)
  have hl : lv_has ls 11 [(6, .int 0), (5, .int 0), (4, .int 0), (0, .ref x), (1, .int (nI n)), (2, .ref zr), (3, .int (nI (2 * n)))] := hl
  replace hl : lv_has ls 11 [(6, .int (nI (2 * 0))), (5, .int (nI 0)), (4, .int (nI 0)), (0, .ref x), (1, .int (nI n)), (2, .ref zr), (3, .int (nI (2 * n)))] := by
    exact hl
  have loopA : ∀ (n_ : Nat) (j lw : Nat) (zz : Nat → Nat), (j ≤ n) → (∀ i, zz i < 4294967296) → (0 < j → lw % 2 = d (j - 1) % 2) → (2 * seg zz 0 (2 * j) + lw % 2 = sqs d j) → (n - j) < n_ → ∀ (H_1 : Heap) (locs : List Loc), va_S (fun q => q = zr) H0 H_1 locs → gI z true .int H_1 zr (2 * n) (dI zz) → gI z w .int H_1 x n (dI d) → ∀ (ls : Array Slot), lv_has ls 11 [(6, .int (nI (2 * j))), (5, .int (nI j)), (4, .int (nI lw)), (0, .ref x), (1, .int (nI n)), (2, .ref zr), (3, .int (nI (2 * n)))] → W p l e { frames := 3, cells := 0, slots := 0, locals := 67 } s m [.ref x, .int (nI n), .ref zr, .int (nI (2 * n))].toArray below meth c H_1 locs 0 0 (MQ below (gRr (fun q => q = zr) H0 (fun r H1 => r = zr ∧ ∃ ee, (∀ i, ee i < 4294967296) ∧ gI z true .int H1 zr (2 * n) (dI ee) ∧ val ee (2 * n) = val d n * val d n)) [.ref x, .int (nI n), .ref zr, .int (nI (2 * n))].toArray s 0 0 (fun q => q = zr)) (F0 m 9 ls []) := by
    intro n_
    induction n_ with
    | zero => intro j lw zz hj hzz hlw hs hm_; exact absurd hm_ (Nat.not_lt_zero _)
    | succ n_ ih_loopA =>
      intro j lw zz hj hzz hlw hs hm_ H_1 locs hS hZ hX ls hl
      refine lv_iload hx hb dJ22_implSquareToLen_9 (lv_at hl 1 rfl) ?_
      refine lv_iload_n hx hb dJ22_implSquareToLen_11 rfl (lv_at hl 4 rfl) ?_
      refine lv_icmp_ge (tgt := 75) hx hb dJ22_implSquareToLen_12 (by decide) (fun c_12 => ?_) (fun c_12 => ?_)
      · skip
        have c_12 := (ai_le (a := n) (b := j) (rfl) (rfl) (by omega) (by omega)).mp c_12
        refine lv_iload_n hx hb dJ22_implSquareToLen_75 rfl (lv_at hl 4 rfl) ?_
        refine lv_istore hx hb dJ22_implSquareToLen_76 hl (by decide) rfl (fun ls hl => ?_)
        have hl : lv_has ls 11 [(5, .int (nI n)), (6, .int (nI (2 * j))), (4, .int (nI lw)), (0, .ref x), (1, .int (nI n)), (2, .ref zr), (3, .int (nI (2 * n)))] := hl
        refine lv_iconst (v := 1) hx hb dJ22_implSquareToLen_78 (by decide) ?_
        refine lv_istore hx hb dJ22_implSquareToLen_79 hl (by decide) rfl (fun ls hl => ?_)
        have hl : lv_has ls 11 [(6, .int 1), (5, .int (nI n)), (4, .int (nI lw)), (0, .ref x), (1, .int (nI n)), (2, .ref zr), (3, .int (nI (2 * n)))] := hl
        replace hl : lv_has ls 11 [(6, .int (nI (2 * (n - n) + 1))), (5, .int (nI n)), (4, .int (nI lw)), (0, .ref x), (1, .int (nI n)), (2, .ref zr), (3, .int (nI (2 * n)))] := by
          rw [Nat.sub_self]
          exact hl
        have loopB : ∀ (n_ : Nat) (i : Nat) (g : Nat → Nat), (i ≤ n) → (∀ i, g i < 4294967296) → (2 * seg g 0 (2 * n) + lw % 2 + odg d i * 4294967296 ^ (2 * (n - i)) = seg d 0 n * seg d 0 n) → (i) < n_ → ∀ (H_2 : Heap) (locs : List Loc), va_S (fun q => q = zr) H0 H_2 locs → gI z true .int H_2 zr (2 * n) (dI g) → gI z w .int H_2 x n (dI d) → ∀ (ls : Array Slot), lv_has ls 11 [(6, .int (nI (2 * (n - i) + 1))), (5, .int (nI i)), (4, .int (nI lw)), (0, .ref x), (1, .int (nI n)), (2, .ref zr), (3, .int (nI (2 * n)))] → W p l e { frames := 3, cells := 0, slots := 0, locals := 67 } s m [.ref x, .int (nI n), .ref zr, .int (nI (2 * n))].toArray below meth c H_2 locs 0 0 (MQ below (gRr (fun q => q = zr) H0 (fun r H1 => r = zr ∧ ∃ ee, (∀ i, ee i < 4294967296) ∧ gI z true .int H1 zr (2 * n) (dI ee) ∧ val ee (2 * n) = val d n * val d n)) [.ref x, .int (nI n), .ref zr, .int (nI (2 * n))].toArray s 0 0 (fun q => q = zr)) (F0 m 81 ls []) := by
          intro n_
          induction n_ with
          | zero => intro i g hi hg hv hm_; exact absurd hm_ (Nat.not_lt_zero _)
          | succ n_ ih_loopB =>
            intro i g hi hg hv hm_ H_2 locs hS hZ hX ls hl
            refine lv_iload hx hb dJ22_implSquareToLen_81 (lv_at hl 1 rfl) ?_
            refine lv_if_le (tgt := 131) hx hb dJ22_implSquareToLen_83 (by decide) (fun c_83 => ?_) (fun c_83 => ?_)
            · skip
              have c_83 := (ai_le (a := i) (b := 0) (rfl) (rfl) (by omega) (by omega)).mp c_83
              have e0 : i = 0 := by omega
              subst e0
              rw [show odg d 0 = 0 from rfl, Nat.zero_mul, Nat.add_zero] at hv
              refine lv_aload_n hx hb dJ22_implSquareToLen_131 rfl (lv_at hl 5 rfl) ?_
              refine lv_iload_n hx hb dJ22_implSquareToLen_132 rfl (lv_at hl 6 rfl) ?_
              refine lv_iconst (v := 1) hx hb dJ22_implSquareToLen_133 (by decide) ?_
              have hsz := hS.1
              refine gcS3_v hCF hwm hl.1 (m_primShl l z H_2 zr (2 * n) g (by omega) (by omega) hg hZ ) (lw_S q1245 q1246 q83 q1247) yd_J22_primitiveLeftShift hS (fun q h => by have hsz := hS.1; (try dsimp only [gfr] at h ⊢) <;> omega) ⟨Nat.le_of_ble_eq_true rfl, Nat.le_of_ble_eq_true rfl⟩ ⟨Nat.le_of_ble_eq_true rfl, Nat.le_of_ble_eq_true rfl⟩ (Nat.le_of_ble_eq_true rfl) dJ22_implSquareToLen_134 (fun H_3 locs hp hex hS => ?_)
              have sz_H_3 : H_2.size ≤ H_3.size := hex.1
              have hX := hX.ex hex (by intro h; (try dsimp only [gfr] at h) <;> omega)
              obtain ⟨ee, hee, hZe, hZv⟩ := hp
              have hX9 := seg_lt hd 0 n
              have htop : d 0 = d 0 := rfl
              have hg9 := seg_lt hg 0 (2 * n)
              have hXX : seg d 0 n * seg d 0 n < 4294967296 ^ (2 * n) := by
                rw [show 2 * n = n + n by omega, Nat.pow_add]
                exact Nat.mul_lt_mul'' hX9 hX9
              have hc0 : g 0 / 2 ^ (32 - 1) = 0 := by
                refine Nat.eq_zero_of_not_pos fun q => ?_
                have := Nat.le_mul_of_pos_left (4294967296 ^ (2 * n)) q
                omega
              rw [hc0, Nat.zero_mul, Nat.zero_add] at hZv
              have hlast : ee (2 * n - 1) % 2 = 0 := by
                have q := seg_r ee 0 (2 * n - 1)
                rw [show 2 * n - 1 + 1 = 2 * n by omega, Nat.zero_add, hZv] at q
                omega
              have lt_zr := hZe.lt
              refine lv_aload_n hx hb dJ22_implSquareToLen_137 rfl (lv_at hl 5 rfl) ?_
              refine lv_iload_n hx hb dJ22_implSquareToLen_138 rfl (lv_at hl 6 rfl) ?_
              refine lv_iconst (v := 1) hx hb dJ22_implSquareToLen_139 (by decide) ?_
              refine lv_isub hx hb dJ22_implSquareToLen_140 ?_
              refine g_topi (v := nI ((2 * n) - 1)) (ai_sub (a := (2 * n)) (b := 1) (rfl) (rfl) (by omega)) ?_
              refine lv_dup2_11 hx hb dJ22_implSquareToLen_141 rfl rfl ?_
              refine gw_iald hx hb hal hZe ((2 * n) - 1) (rfl) (by omega) (by omega) dJ22_implSquareToLen_142 ?_
              refine g_topi (v := (nI (ee ((2 * n) - 1)))) rfl ?_
              refine lv_aload_n hx hb dJ22_implSquareToLen_143 rfl (lv_at hl 3 rfl) ?_
              refine lv_iload_n hx hb dJ22_implSquareToLen_144 rfl (lv_at hl 4 rfl) ?_
              refine lv_iconst (v := 1) hx hb dJ22_implSquareToLen_145 (by decide) ?_
              refine lv_isub hx hb dJ22_implSquareToLen_146 ?_
              refine g_topi (v := nI (n - 1)) (ai_sub (a := n) (b := 1) (rfl) (rfl) (by omega)) ?_
              refine gw_iald hx hb hal hX (n - 1) (rfl) (by omega) (by omega) dJ22_implSquareToLen_147 ?_
              refine g_topi (v := (nI (d (n - 1)))) rfl ?_
              refine lv_iconst (v := 1) hx hb dJ22_implSquareToLen_148 (by decide) ?_
              refine lv_iand hx hb dJ22_implSquareToLen_149 ?_
              refine g_topi (v := nI ((d (n - 1)) % 2)) (ai_and1 (a := (d (n - 1))) (rfl) (hd _)) ?_
              refine lv_ior hx hb dJ22_implSquareToLen_150 ?_
              refine g_topi (v := (nI (ee (2 * n - 1) + d (n - 1) % 2))) (or_bit (hee _) hlast (by omega)) ?_
              refine gw_iast (f := (dI ee)) hx hb hal hZe hS (by have hsz := hS.1; (try dsimp only [gfr]) <;> omega) ((2 * n) - 1) (rfl) (by omega) (by omega) dJ22_implSquareToLen_151 (fun H_5 locs h_new hch hS => ?_)
              have hX := hX.ch hch (by omega)
              have sz_H_5 := hch.1
              clear hch
              have hZe : gI z true .int H_5 zr (2 * n) (upd (dI ee) ((2 * n) - 1) (nI (ee (2 * n - 1) + d (n - 1) % 2))) := h_new
              replace hZe : gI z true .int H_5 zr (2 * n) (dI (dup ee ((2 * n) - 1) ((ee (2 * n - 1) + d (n - 1) % 2) % 4294967296))) := by
                have q := hZe
                rw [dI_put] at q
                exact q
              have bd_6 : ∀ i, (dup ee ((2 * n) - 1) ((ee (2 * n - 1) + d (n - 1) % 2) % 4294967296)) i < 4294967296 := dup_lt hee (Nat.mod_lt _ (by decide))
              refine lv_aload_n hx hb dJ22_implSquareToLen_152 rfl (lv_at hl 5 rfl) ?_
              refine g_aret hx hb hr hlocks (Or.inr ⟨_, rfl⟩) hS (Nat.le_of_ble_eq_true rfl) (Nat.le_of_ble_eq_true rfl) ?_ dJ22_implSquareToLen_153
              refine ⟨rfl, _, bd_6, hZe, ?_⟩
              have q := seg_dup (g := ee) (n := 2 * n) (u := 2 * n - 1) (x := (ee (2 * n - 1) + d (n - 1) % 2) % 4294967296) (by omega)
              rw [show 2 * n - 1 - (2 * n - 1) = 0 by omega, Nat.pow_zero, Nat.mul_one, Nat.mul_one] at q
              have hen := hee (2 * n - 1)
              have hlw2 := hlw (by omega)
              rw [show j = n by omega] at hlw2
              rw [← seg_0, ← seg_0 d n, ← hv]
              omega
            · skip
              have c_83 := mt (ai_le (a := i) (b := 0) (rfl) (rfl) (by omega) (by omega)).mpr c_83
              have hi1 : 1 ≤ i := by omega
              refine lv_aload_n hx hb dJ22_implSquareToLen_86 rfl (lv_at hl 3 rfl) ?_
              refine lv_iload hx hb dJ22_implSquareToLen_87 (lv_at hl 1 rfl) ?_
              refine lv_iconst (v := 1) hx hb dJ22_implSquareToLen_89 (by decide) ?_
              refine lv_isub hx hb dJ22_implSquareToLen_90 ?_
              refine g_topi (v := nI (i - 1)) (ai_sub (a := i) (b := 1) (rfl) (rfl) (by omega)) ?_
              refine gw_iald hx hb hal hX (i - 1) (rfl) (by omega) (by omega) dJ22_implSquareToLen_91 ?_
              refine g_topi (v := (nI (d (i - 1)))) rfl ?_
              refine lv_istore hx hb dJ22_implSquareToLen_92 hl (by decide) rfl (fun ls hl => ?_)
              have hl : lv_has ls 11 [(7, .int (nI (d (i - 1)))), (6, .int (nI (2 * (n - i) + 1))), (5, .int (nI i)), (4, .int (nI lw)), (0, .ref x), (1, .int (nI n)), (2, .ref zr), (3, .int (nI (2 * n)))] := hl
              refine lv_aload_n hx hb dJ22_implSquareToLen_94 rfl (lv_at hl 6 rfl) ?_
              refine lv_aload_n hx hb dJ22_implSquareToLen_95 rfl (lv_at hl 4 rfl) ?_
              refine lv_iload hx hb dJ22_implSquareToLen_96 (lv_at hl 1 rfl) ?_
              refine lv_iload hx hb dJ22_implSquareToLen_98 (lv_at hl 2 rfl) ?_
              refine lv_iconst (v := 1) hx hb dJ22_implSquareToLen_100 (by decide) ?_
              refine lv_isub hx hb dJ22_implSquareToLen_101 ?_
              refine g_topi (v := nI (i - 1)) (ai_sub (a := i) (b := 1) (rfl) (rfl) (by omega)) ?_
              refine lv_iload hx hb dJ22_implSquareToLen_102 (lv_at hl 0 rfl) ?_
              have hsz := hS.1
              refine gcS5_i hCF hwm hl.1 (m_mulAdd l z H_2 zr x (2 * n) (2 * (n - i) + 1) (i - 1) (d (i - 1)) n w g d hzx (by omega) (by omega) (by omega) (by omega) (by omega) (hd _) hg hd hZ hX ) (lw_S q1229 q1230 q83 q1231) yd_J22_mulAdd hS (fun q h => by have hsz := hS.1; (try dsimp only [gfr] at h ⊢) <;> omega) ⟨Nat.le_of_ble_eq_true rfl, Nat.le_of_ble_eq_true rfl⟩ ⟨Nat.le_of_ble_eq_true rfl, Nat.le_of_ble_eq_true rfl⟩ (Nat.le_of_ble_eq_true rfl) dJ22_implSquareToLen_104 (fun rk H_7 locs hp hex hS => ?_)
              have sz_H_7 : H_2.size ≤ H_7.size := hex.1
              have hX := hX.ex hex (by intro h; (try dsimp only [gfr] at h) <;> omega)
              obtain ⟨kk, gg, hma1, hma2, hma3, hma4, hma5, hZ⟩ := hp
              subst hma1
              rw [show 2 * n - (2 * (n - i) + 1) - (i - 1) = i by omega] at hma4 hma5
              have hov := sq_ov hd hi1 hi g hma5 (fun j hj => hma4 j (by omega)) hv
              have lt_zr := hZ.lt
              refine lv_istore hx hb dJ22_implSquareToLen_107 hl (by decide) rfl (fun ls hl => ?_)
              have hl : lv_has ls 11 [(7, .int (nI kk)), (6, .int (nI (2 * (n - i) + 1))), (5, .int (nI i)), (4, .int (nI lw)), (0, .ref x), (1, .int (nI n)), (2, .ref zr), (3, .int (nI (2 * n)))] := hl
              refine lv_aload_n hx hb dJ22_implSquareToLen_109 rfl (lv_at hl 6 rfl) ?_
              refine lv_iload hx hb dJ22_implSquareToLen_110 (lv_at hl 1 rfl) ?_
              refine lv_iconst (v := 1) hx hb dJ22_implSquareToLen_112 (by decide) ?_
              refine lv_isub hx hb dJ22_implSquareToLen_113 ?_
              refine g_topi (v := nI ((2 * (n - i) + 1) - 1)) (ai_sub (a := (2 * (n - i) + 1)) (b := 1) (rfl) (rfl) (by omega)) ?_
              refine lv_iload hx hb dJ22_implSquareToLen_114 (lv_at hl 2 rfl) ?_
              refine lv_iload hx hb dJ22_implSquareToLen_116 (lv_at hl 0 rfl) ?_
              have hsz := hS.1
              refine gcS4_i hCF hwm hl.1 (m_addOne l z H_7 zr (2 * n) (2 * (n - i)) i kk (i - 1) gg (by omega) (by omega) (by omega) hma2 hma3 (by rw [show i - 1 + 1 = i by omega]; exact hov) hZ ) (lw_S q1242 q1243 q83 q1244) yd_J22_addOne hS (fun q h => by have hsz := hS.1; (try dsimp only [gfr] at h ⊢) <;> omega) ⟨Nat.le_of_ble_eq_true rfl, Nat.le_of_ble_eq_true rfl⟩ ⟨Nat.le_of_ble_eq_true rfl, Nat.le_of_ble_eq_true rfl⟩ (Nat.le_of_ble_eq_true rfl) dJ22_implSquareToLen_118 (fun rl H_8 locs hp hex hS => ?_)
              have sz_H_8 : H_7.size ≤ H_8.size := hex.1
              have hX := hX.ex hex (by intro h; (try dsimp only [gfr] at h) <;> omega)
              obtain ⟨ga, hga1, hga2, hga3, hZ⟩ := hp
              have lt_zr := hZ.lt
              refine lv_pop hx hb dJ22_implSquareToLen_121 rfl ?_
              refine lv_iinc (k := 2) (v := (nI (i - 1))) hx hb dJ22_implSquareToLen_122 hl rfl (ai_sbn (a := i) (b := 1) (rfl) (show Int32.ofInt (-1) = -nI 1 by decide) (by omega)) (by decide) rfl (fun ls hl => ?_)
              have hl : lv_has ls 11 [(5, .int (nI (i - 1))), (7, .int (nI kk)), (6, .int (nI (2 * (n - i) + 1))), (4, .int (nI lw)), (0, .ref x), (1, .int (nI n)), (2, .ref zr), (3, .int (nI (2 * n)))] := hl
              refine lv_iinc (k := 2) (v := (nI ((2 * (n - i) + 1) + 2))) hx hb dJ22_implSquareToLen_125 hl rfl (ai_add (a := (2 * (n - i) + 1)) (b := 2) (rfl) (show Int32.ofInt 2 = nI 2 by decide)) (by decide) rfl (fun ls hl => ?_)
              have hl : lv_has ls 11 [(6, .int (nI ((2 * (n - i) + 1) + 2))), (5, .int (nI (i - 1))), (7, .int (nI kk)), (4, .int (nI lw)), (0, .ref x), (1, .int (nI n)), (2, .ref zr), (3, .int (nI (2 * n)))] := hl
              refine lv_goto (tgt := 81) hx hb dJ22_implSquareToLen_128 (by decide) ?_
              replace hl : lv_has ls 11 [(6, .int (nI (2 * (n - (i - 1)) + 1))), (5, .int (nI (i - 1))), (7, .int (nI kk)), (4, .int (nI lw)), (0, .ref x), (1, .int (nI n)), (2, .ref zr), (3, .int (nI (2 * n)))] := by
                rw [show 2 * (n - (i - 1)) + 1 = 2 * (n - i) + 3 by omega]
                exact hl
              exact ih_loopB (i - 1) ga (by omega) hga1 (sq_row hi1 hi hma5 (fun j hj => hma4 j (by omega)) (by rw [show i - 1 + 1 = i by omega] at hga3; exact hga3) hga2 hv) (by omega) H_8 _ hS hZ hX ls (lv_sub hl [0, 1, 3, 4, 5, 6, 7] rfl)
        exact loopB _ n zz (Nat.le_refl _) hzz (by rw [show j = n by omega] at hs; rw [Nat.sub_self, Nat.mul_zero, Nat.pow_zero, Nat.mul_one, sq_all, ← hs]) (Nat.lt_succ_self _) H_1 _ hS hZ hX ls (lv_sub hl [0, 1, 2, 3, 4, 5, 6] rfl)
      · skip
        have c_12 := mt (ai_le (a := n) (b := j) (rfl) (rfl) (by omega) (by omega)).mpr c_12
        refine lv_aload_n hx hb dJ22_implSquareToLen_15 rfl (lv_at hl 3 rfl) ?_
        refine lv_iload hx hb dJ22_implSquareToLen_16 (lv_at hl 1 rfl) ?_
        refine gw_iald hx hb hal hX j (rfl) (by omega) (by omega) dJ22_implSquareToLen_18 ?_
        refine g_topi (v := (nI (d j))) rfl ?_
        refine lv_i2l hx hb dJ22_implSquareToLen_19 rfl ?_
        refine lv_ldc2 (v := 4294967295) hx hb hown (hts _ q1228) dJ22_implSquareToLen_20 ?_
        refine lv_land hx hb dJ22_implSquareToLen_23 ?_
        refine g_topl (v := lN (d j)) (mk32 (a := (d j)) (rfl) (hd _)) ?_
        refine lv_lstore hx hb dJ22_implSquareToLen_24 hl (by decide) rfl (fun ls hl => ?_)
        have hl : lv_has ls 11 [(7, .long (lN (d j))), (6, .int (nI (2 * j))), (5, .int (nI j)), (4, .int (nI lw)), (0, .ref x), (1, .int (nI n)), (2, .ref zr), (3, .int (nI (2 * n)))] := hl
        refine lv_lload hx hb dJ22_implSquareToLen_26 (lv_at hl 0 rfl) ?_
        refine lv_lload hx hb dJ22_implSquareToLen_28 (lv_at hl 0 rfl) ?_
        refine lv_lmul hx hb dJ22_implSquareToLen_30 ?_
        refine g_topl (v := lN ((d j) * (d j))) (ai_mulL (a := (d j)) (b := (d j)) (rfl) (rfl)) ?_
        obtain ⟨P, hP⟩ : ∃ P : Nat, P = ((d j) * (d j)) := ⟨_, rfl⟩
        refine g_topl (v := lN P) (by rw [hP]) ?_
        have hP9 : P < 18446744073709551616 := by rw [hP]; have := mul_bd (hd j) (hd j) (show 0 < 4294967296 by decide) (show 0 < 4294967296 by decide); omega
        refine lv_lstore hx hb dJ22_implSquareToLen_31 hl (by decide) rfl (fun ls hl => ?_)
        have hl : lv_has ls 11 [(9, .long (lN P)), (7, .long (lN (d j))), (6, .int (nI (2 * j))), (5, .int (nI j)), (4, .int (nI lw)), (0, .ref x), (1, .int (nI n)), (2, .ref zr), (3, .int (nI (2 * n)))] := hl
        refine lv_aload_n hx hb dJ22_implSquareToLen_33 rfl (lv_at hl 7 rfl) ?_
        refine lv_iload hx hb dJ22_implSquareToLen_34 (lv_at hl 2 rfl) ?_
        refine lv_iinc (k := 2) (v := (nI ((2 * j) + 1))) hx hb dJ22_implSquareToLen_36 hl rfl (ai_add (a := (2 * j)) (b := 1) (rfl) (show Int32.ofInt 1 = nI 1 by decide)) (by decide) rfl (fun ls hl => ?_)
        have hl : lv_has ls 11 [(6, .int (nI ((2 * j) + 1))), (9, .long (lN P)), (7, .long (lN (d j))), (5, .int (nI j)), (4, .int (nI lw)), (0, .ref x), (1, .int (nI n)), (2, .ref zr), (3, .int (nI (2 * n)))] := hl
        refine lv_iload hx hb dJ22_implSquareToLen_39 (lv_at hl 4 rfl) ?_
        refine lv_bipush (v := 31) hx hb dJ22_implSquareToLen_41 (by decide) ?_
        refine lv_ishl hx hb dJ22_implSquareToLen_43 ?_
        refine g_topi (v := nI (lw * 2147483648)) (ai_shl (rfl) 31 (by decide) rfl) ?_
        refine lv_lload hx hb dJ22_implSquareToLen_44 (lv_at hl 1 rfl) ?_
        refine lv_bipush (v := 33) hx hb dJ22_implSquareToLen_46 (by decide) ?_
        refine lv_lushr hx hb dJ22_implSquareToLen_48 rfl ?_
        refine g_topl (v := (lN (P / 8589934592))) (lN_shr33 hP9) ?_
        refine lv_l2i hx hb dJ22_implSquareToLen_49 rfl ?_
        refine g_topi (v := nI (P / 8589934592)) (ai_l2i (rfl)) ?_
        refine lv_ior hx hb dJ22_implSquareToLen_50 ?_
        refine g_topi (v := (nI (lw % 2 * 2147483648 + P / 8589934592))) (sq_hi (by omega)) ?_
        refine gw_iast (f := (dI zz)) hx hb hal hZ hS (by have hsz := hS.1; (try dsimp only [gfr]) <;> omega) (2 * j) (rfl) (by omega) (by omega) dJ22_implSquareToLen_51 (fun H_9 locs h_new hch hS => ?_)
        have hX := hX.ch hch (by omega)
        have sz_H_9 := hch.1
        clear hch
        have hZ : gI z true .int H_9 zr (2 * n) (upd (dI zz) (2 * j) (nI (lw % 2 * 2147483648 + P / 8589934592))) := h_new
        replace hZ : gI z true .int H_9 zr (2 * n) (dI (dup zz (2 * j) ((lw % 2 * 2147483648 + P / 8589934592) % 4294967296))) := by
          have q := hZ
          rw [dI_put] at q
          exact q
        have bd_10 : ∀ i, (dup zz (2 * j) ((lw % 2 * 2147483648 + P / 8589934592) % 4294967296)) i < 4294967296 := dup_lt hzz (Nat.mod_lt _ (by decide))
        refine lv_aload_n hx hb dJ22_implSquareToLen_52 rfl (lv_at hl 7 rfl) ?_
        refine lv_iload hx hb dJ22_implSquareToLen_53 (lv_at hl 0 rfl) ?_
        refine lv_iinc (k := 0) (v := (nI ((2 * j) + 2))) hx hb dJ22_implSquareToLen_55 hl rfl (ai_add (a := ((2 * j) + 1)) (b := 1) (rfl) (show Int32.ofInt 1 = nI 1 by decide)) (by decide) rfl (fun ls hl => ?_)
        have hl : lv_has ls 11 [(6, .int (nI ((2 * j) + 2))), (9, .long (lN P)), (7, .long (lN (d j))), (5, .int (nI j)), (4, .int (nI lw)), (0, .ref x), (1, .int (nI n)), (2, .ref zr), (3, .int (nI (2 * n)))] := hl
        refine lv_lload hx hb dJ22_implSquareToLen_58 (lv_at hl 1 rfl) ?_
        refine lv_iconst (v := 1) hx hb dJ22_implSquareToLen_60 (by decide) ?_
        refine lv_lushr hx hb dJ22_implSquareToLen_61 rfl ?_
        refine g_topl (v := (lN (P / 2))) (lN_shr1 hP9) ?_
        refine lv_l2i hx hb dJ22_implSquareToLen_62 rfl ?_
        refine g_topi (v := nI (P / 2)) (ai_l2i (rfl)) ?_
        refine gw_iast (f := (dI (dup zz (2 * j) ((lw % 2 * 2147483648 + P / 8589934592) % 4294967296)))) hx hb hal hZ hS (by have hsz := hS.1; (try dsimp only [gfr]) <;> omega) ((2 * j) + 1) (rfl) (by omega) (by omega) dJ22_implSquareToLen_63 (fun H_11 locs h_new hch hS => ?_)
        have hX := hX.ch hch (by omega)
        have sz_H_11 := hch.1
        clear hch
        have hZ : gI z true .int H_11 zr (2 * n) (upd (dI (dup zz (2 * j) ((lw % 2 * 2147483648 + P / 8589934592) % 4294967296))) ((2 * j) + 1) (nI (P / 2))) := h_new
        replace hZ : gI z true .int H_11 zr (2 * n) (dI (dup (dup zz (2 * j) ((lw % 2 * 2147483648 + P / 8589934592) % 4294967296)) ((2 * j) + 1) ((P / 2) % 4294967296))) := by
          have q := hZ
          rw [dI_put] at q
          exact q
        have bd_12 : ∀ i, (dup (dup zz (2 * j) ((lw % 2 * 2147483648 + P / 8589934592) % 4294967296)) ((2 * j) + 1) ((P / 2) % 4294967296)) i < 4294967296 := dup_lt bd_10 (Nat.mod_lt _ (by decide))
        refine lv_lload hx hb dJ22_implSquareToLen_64 (lv_at hl 1 rfl) ?_
        refine lv_l2i hx hb dJ22_implSquareToLen_66 rfl ?_
        refine g_topi (v := nI P) (ai_l2i (rfl)) ?_
        refine lv_istore hx hb dJ22_implSquareToLen_67 hl (by decide) rfl (fun ls hl => ?_)
        have hl : lv_has ls 11 [(4, .int (nI P)), (6, .int (nI ((2 * j) + 2))), (9, .long (lN P)), (7, .long (lN (d j))), (5, .int (nI j)), (0, .ref x), (1, .int (nI n)), (2, .ref zr), (3, .int (nI (2 * n)))] := hl
        refine lv_iinc (k := 4) (v := (nI (j + 1))) hx hb dJ22_implSquareToLen_69 hl rfl (ai_add (a := j) (b := 1) (rfl) (show Int32.ofInt 1 = nI 1 by decide)) (by decide) rfl (fun ls hl => ?_)
        have hl : lv_has ls 11 [(5, .int (nI (j + 1))), (4, .int (nI P)), (6, .int (nI ((2 * j) + 2))), (9, .long (lN P)), (7, .long (lN (d j))), (0, .ref x), (1, .int (nI n)), (2, .ref zr), (3, .int (nI (2 * n)))] := hl
        refine lv_goto (tgt := 9) hx hb dJ22_implSquareToLen_72 (by decide) ?_
        replace hl : lv_has ls 11 [(5, .int (nI (j + 1))), (4, .int (nI P)), (6, .int (nI (2 * (j + 1)))), (9, .long (lN P)), (7, .long (lN (d j))), (0, .ref x), (1, .int (nI n)), (2, .ref zr), (3, .int (nI (2 * n)))] := by
          rw [show 2 * (j + 1) = 2 * j + 2 by omega]
          exact hl
        exact ih_loopA (j + 1) P (dup (dup zz (2 * j) ((lw % 2 * 2147483648 + P / 8589934592) % 4294967296)) ((2 * j) + 1) ((P / 2) % 4294967296)) (by omega) bd_12 (fun _ => by rw [Nat.add_sub_cancel, hP]; exact sq_par _) (sq_step hP hP9 hs) (by omega) H_11 _ hS hZ hX ls (lv_sub hl [2, 0, 1, 5, 6, 7, 8] rfl)
  exact loopA _ 0 0 (fun _ => 0) (Nat.zero_le _) (fun _ => by decide) (fun q => by omega) rfl (Nat.lt_succ_self _) H0 _ hS hZ hX ls (lv_sub hl [0, 1, 2, 3, 4, 5, 6] rfl)
set_option maxHeartbeats 1000000 in
theorem m_sqLen (l : Launch) (z : State) (H0 : Heap) (x : Nat) (n : Nat) (w : Bool) (d : Nat → Nat) (hn0 : 0 < n) (hn9 : n < 100000) (hd : ∀ i, d i < 4294967296) (hX : gI z w .int H0 x n (dI d)) : Met l yJ22_squareToLen (ws_ yJ22_squareToLen cJ22_squareToLen 4 (some (.array .int))) { frames := 4, cells := 1, slots := (2 * n), locals := 97 } (gPc z H0 [.ref x, .int (nI n),  .null]) (gRr (gfr H0) H0 (fun r H1 => H0.size ≤ r ∧ ∃ ee, (∀ i, ee i < 4294967296) ∧ gI z true .int H1 r (2 * n) (dI ee) ∧ val ee (2 * n) = val d n * val d n)) 1 (2 * n) (gfr H0) := by
  refine g_start (by decide +kernel) (Nat.le_of_ble_eq_true rfl) ?_
  intro p e s m below meth c ls hx hb hr hlocks hml hown hname hts hwm hl
  have hown : s.vm.findClass "java/math/BigInteger" = some m.cls := hown
  have hal : z.vm.Alike s.vm := hwm.alike
  have hCF : CallFix p m c cJ22_squareToLen 4 s [.ref x, .int (nI n),  .null].toArray lw_all "java/math/BigInteger" := ⟨hx, hb, hml, hown, hts⟩
  have hl : lv_has ls 4 [(0, .ref x), (1, .int (nI n)), (2,  .null)] := hl
  have hS : va_S (gfr H0) H0 H0 [] := va_S.rf
  have lt_x := hX.lt
  refine lv_iload_n hx hb dJ22_squareToLen_0 rfl (lv_at hl 1 rfl) ?_
  refine lv_iconst (v := 1) hx hb dJ22_squareToLen_1 (by decide) ?_
  refine lv_ishl hx hb dJ22_squareToLen_2 ?_
  refine g_topi (v := (nI (2 * n))) ?_ ?_
  · skip
    refine (ai_shl (a := n) rfl 1 (by decide) rfl).trans (congrArg nI ?_)
    omega
  refine lv_istore_n hx hb dJ22_squareToLen_3 rfl hl (by decide) rfl (fun ls hl => ?_)
  have hl : lv_has ls 4 [(3, .int (nI (2 * n))), (0, .ref x), (1, .int (nI n)), (2,  .null)] := hl
  refine lv_aload_nN hx hb dJ22_squareToLen_4 rfl (lv_at hl 3 rfl) ?_
  refine lv_ifnullN (tgt := 14) hx hb dJ22_squareToLen_5 (by decide) ?_
  refine lv_iload_n hx hb dJ22_squareToLen_14 rfl (lv_at hl 0 rfl) ?_
  have hsz := hS.1
  have lt_x := hX.lt
  refine gw_newa (atype := .int) (ty := .int) (N' := (2 * n)) hx hb (hts _ q990) rfl hal hS (rfl) (by omega) (by simp [componentBytes]; omega) (by first | omega | (dsimp only; omega)) (by first | omega | (dsimp only; omega)) dJ22_squareToLen_15 (fun qz H_1 eqz zqz hgx h_qz hS => ?_)
  have hX := hX.x hgx
  have h_qz : gI z true .int H_1 qz (2 * n) (fun _ => 0) := h_qz
  have h_qz : gI z true .int H_1 qz (2 * n) (dI (fun _ => 0)) := h_qz
  refine lv_astore_n hx hb dJ22_squareToLen_17 rfl hl (by decide) rfl (fun ls hl => ?_)
  have hl : lv_has ls 4 [(2, .ref qz), (3, .int (nI (2 * n))), (0, .ref x), (1, .int (nI n))] := hl
  refine lv_aload_n hx hb dJ22_squareToLen_18 rfl (lv_at hl 2 rfl) ?_
  refine lv_iload_n hx hb dJ22_squareToLen_19 rfl (lv_at hl 3 rfl) ?_
  refine lv_aload_n hx hb dJ22_squareToLen_20 rfl (lv_at hl 0 rfl) ?_
  refine lv_iload_n hx hb dJ22_squareToLen_21 rfl (lv_at hl 1 rfl) ?_
  refine gcS4_vP hCF hwm hl.1 (m_sqChk l z H_1 x qz n w d (by omega) hn0 hn9 hd h_qz hX ) (lw_S q1214 q1215 q83 q1216) yd_J22_implSquareToLenChecks ⟨Nat.le_of_ble_eq_true rfl, Nat.le_of_ble_eq_true rfl⟩ ⟨by first | omega | (dsimp only; omega), by first | omega | (dsimp only; omega)⟩ (Nat.le_of_ble_eq_true rfl) dJ22_squareToLen_22 (fun hp => ?_)
  clear hp
  refine lv_aload_n hx hb dJ22_squareToLen_25 rfl (lv_at hl 2 rfl) ?_
  refine lv_iload_n hx hb dJ22_squareToLen_26 rfl (lv_at hl 3 rfl) ?_
  refine lv_aload_n hx hb dJ22_squareToLen_27 rfl (lv_at hl 0 rfl) ?_
  refine lv_iload_n hx hb dJ22_squareToLen_28 rfl (lv_at hl 1 rfl) ?_
  have hsz := hS.1
  refine gcS4_r hCF hwm hl.1 (m_sq6 l z H_1 x qz n w d (by omega) hn0 hn9 hd h_qz hX ) (lw_S q1225 q1226 q83 q1227) yd_J22_implSquareToLen hS (fun q h => by have hsz := hS.1; (try dsimp only [gfr] at h ⊢) <;> omega) ⟨Nat.le_of_ble_eq_true rfl, Nat.le_of_ble_eq_true rfl⟩ ⟨by first | omega | (dsimp only; omega), by first | omega | (dsimp only; omega)⟩ (Nat.le_of_ble_eq_true rfl) dJ22_squareToLen_29 (fun rr H_2 locs hp hex hS => ?_)
  have sz_H_2 : H_1.size ≤ H_2.size := hex.1
  have hX := hX.ex hex (by intro h; (try dsimp only [gfr] at h) <;> omega)
  obtain ⟨hr0, hN⟩ := hp
  subst hr0
  refine g_aret hx hb hr hlocks (Or.inr ⟨_, rfl⟩) hS (by first | omega | (dsimp only; omega)) (by first | omega | (dsimp only; omega)) ?_ dJ22_squareToLen_32
  exact ⟨by omega, hN⟩
set_option maxHeartbeats 1000000 in
theorem m_square4 (l : Launch) (z : State) (H0 : Heap) (a : Nat) (V1 : Nat) (w1 : Bool) (m1 n1 : Nat) (d1 : Nat → Nat) (hV1 : 0 < V1) (hn91 : n1 ≤ 20) (hb1 : bI z w1 H0 a m1 n1 d1 V1) (hzw : zW z) : Met l yJ22_square (ws_ yJ22_square cJ22_square 6 (some (.object "java/math/BigInteger"))) { frames := 5, cells := 3, slots := (4 * n1 + 6), locals := 120 } (gPc z H0 [.ref a, .int 0, .int 0, .int 0]) (gRr (gfr H0) H0 (fun r H1 => ∃ mr nr dr, H0.size ≤ r ∧ H0.size ≤ mr ∧ bI z true H1 r mr nr dr ((V1 * V1 : Nat) : Int))) 3 (4 * n1 + 6) (gfr H0) := by
  refine g_start (by decide +kernel) (Nat.le_of_ble_eq_true rfl) ?_
  intro p e s m below meth c ls hx hb hr hlocks hml hown hname hts hwm hl
  have hown : s.vm.findClass "java/math/BigInteger" = some m.cls := hown
  have hal : z.vm.Alike s.vm := hwm.alike
  have hCF : CallFix p m c cJ22_square 6 s [.ref a, .int 0, .int 0, .int 0].toArray lw_all "java/math/BigInteger" := ⟨hx, hb, hml, hown, hts⟩
  have hl : lv_has ls 6 [(0, .ref a), (1, .int 0), (2, .int 0), (3, .int 0)] := hl
  have hS : va_S (gfr H0) H0 H0 [] := va_S.rf
  obtain ⟨c11, c21, c31, c41, hO1, hM1, hd1, hv1, h01, hn1, hca1⟩ := hb1
  rw [sg_pos (show (0 : Int) < (V1 : Int) by omega)] at hO1
  have hv1 : val d1 n1 = V1 := by rw [hv1]; omega
  have hnp1 := n_pos hv1 hV1
  have h01 := h01 hnp1
  have lt_a := hO1.lt
  have lt_m1 := hM1.lt
  refine lv_aload_n hx hb dJ22_square_0 rfl (lv_at hl 0 rfl) ?_
  refine gw_get (C := RJ22) (T := TJ22) (N := 6) (v := .int 1) hx hb hts in_J22 hown hal hO1 0 (by decide) (hts _ q835) (fun _ h9 => h9) rfl dJ22_square_1 ?_
  refine lv_if_ne (tgt := 11) hx hb dJ22_square_4 (by decide) (fun c_4 => ?_) (fun c_4 => absurd c_4 (by decide))
  refine lv_aload_n hx hb dJ22_square_11 rfl (lv_at hl 0 rfl) ?_
  refine gw_get (C := RJ22) (T := TJ22) (N := 6) (v := .ref m1) hx hb hts in_J22 hown hal hO1 1 (by decide) (hts _ q837) (fun _ h9 => h9) rfl dJ22_square_12 ?_
  refine gw_len hx hb hal hM1 dJ22_square_15 ?_
  refine lv_istore hx hb dJ22_square_16 hl (by decide) rfl (fun ls hl => ?_)
  have hl : lv_has ls 6 [(4, .int (nI n1)), (0, .ref a), (1, .int 0), (2, .int 0), (3, .int 0)] := hl
  refine lv_iload hx hb dJ22_square_18 (lv_at hl 0 rfl) ?_
  refine lv_sipush (v := 128) hx hb dJ22_square_20 (by decide) ?_
  refine lv_icmp_ge (tgt := 52) hx hb dJ22_square_23 (by decide) (fun c_23 => False.elim (by
    have c_23 := (ai_le (a := 128) (b := n1) (rfl) (rfl) (by omega) (by omega)).mp c_23
    omega)) (fun c_23 => ?_)
  have c_23 := mt (ai_le (a := 128) (b := n1) (rfl) (rfl) (by omega) (by omega)).mpr c_23
  refine lv_aload_n hx hb dJ22_square_26 rfl (lv_at hl 1 rfl) ?_
  refine gw_get (C := RJ22) (T := TJ22) (N := 6) (v := .ref m1) hx hb hts in_J22 hown hal hO1 1 (by decide) (hts _ q837) (fun _ h9 => h9) rfl dJ22_square_27 ?_
  refine lv_iload hx hb dJ22_square_30 (lv_at hl 0 rfl) ?_
  refine lv_null hx hb dJ22_square_32 ?_
  have hsz := hS.1
  refine gcS3_r hCF hwm hl.1 (m_sqLen l z H0 m1 n1 w1 d1 hnp1 (by omega) hd1 hM1 ) (lw_S q1211 q1212 q83 q1213) yd_J22_squareToLen hS (fun q h => Nat.le_trans hS.1 h) ⟨Nat.le_of_ble_eq_true rfl, Nat.le_of_ble_eq_true rfl⟩ ⟨by first | omega | (dsimp only; omega), by first | omega | (dsimp only; omega)⟩ (Nat.le_of_ble_eq_true rfl) dJ22_square_33 (fun rm H_1 locs hp hex hS => ?_)
  have sz_H_1 : H0.size ≤ H_1.size := hex.1
  have hgx := hex.x
  clear hex
  have hO1 := hO1.x hgx
  have hM1 := hM1.x hgx
  obtain ⟨hml1, em, hml2, hml3, hml4⟩ := hp
  have lt_rm := hml3.lt
  refine lv_astore hx hb dJ22_square_36 hl (by decide) rfl (fun ls hl => ?_)
  have hl : lv_has ls 6 [(5, .ref rm), (4, .int (nI n1)), (0, .ref a), (1, .int 0), (2, .int 0), (3, .int 0)] := hl
  have hsz := hS.1
  have lt_a := hO1.lt
  have lt_m1 := hM1.lt
  have lt_rm := hml3.lt
  refine gw_new (C := RJ22) (T := TJ22) (N := 6) (fs := [.int 0, .null, .int 0, .int 0, .int 0, .int 0]) hx hb hts in_J22 tyJ22 tyJ22_ok hown hal (hts _ q818) (hts _ q819) (hts _ q83) hS (by decide +kernel) (by first | omega | (dsimp only; omega)) (by first | omega | (dsimp only; omega)) dJ22_square_38 (fun qo H_2 eqo zqo hgx h_qo hS => ?_)
  have hO1 := hO1.x hgx
  have hM1 := hM1.x hgx
  have hml3 := hml3.x hgx
  refine lv_dup hx hb dJ22_square_41 rfl ?_
  refine lv_aload hx hb dJ22_square_42 (lv_at hl 0 rfl) ?_
  have hsz := hS.1
  refine gcS1_r hCF hwm hl.1 (m_strip l z H_2 rm (2 * n1) em (by omega) hml2 hml3 hzw ) (lw_S q1252 q1253 q83 q1254) yd_J22_trustedStripLeadingZeroInts hS (fun q h => Nat.le_trans hS.1 h) ⟨Nat.le_of_ble_eq_true rfl, Nat.le_of_ble_eq_true rfl⟩ ⟨by first | omega | (dsimp only; omega), by first | omega | (dsimp only; omega)⟩ (Nat.le_of_ble_eq_true rfl) dJ22_square_44 (fun rt H_3 locs hp hex hS => ?_)
  have sz_H_3 : H_2.size ≤ H_3.size := hex.1
  have hgx := hex.x
  clear hex
  have hO1 := hO1.x hgx
  have hM1 := hM1.x hgx
  have hml3 := hml3.x hgx
  have h_qo := h_qo.x hgx
  obtain ⟨i, hi1, hi2, hi3, hst, hrt⟩ := hp
  have hss := strip_val hi1 hi2
  rw [hml4, hv1] at hss
  have hVp : 0 < V1 * V1 := Nat.mul_pos hV1 hV1
  have hlt : i < 2 * n1 := by
    refine Decidable.byContradiction fun q => ?_
    rw [show 2 * n1 - i = 0 by omega] at hss
    exact absurd hss (by show ¬ 0 = _; omega)
  have lt_rt := hst.lt
  refine lv_iconst (v := 1) hx hb dJ22_square_47 (by decide) ?_
  have hsz := hS.1
  refine gcI2_v hCF hwm hl.1 (m_bigInit l z H_3 qo rt 1 (2 * n1 - i) (fun j => em (i + j)) true (by omega) (by omega) h_qo hst ) q820 q821 q83 q822 rfl yd_J22_init hS (fun q h => by have hsz := hS.1; (try dsimp only [gfr] at h ⊢) <;> omega) ⟨Nat.le_of_ble_eq_true rfl, Nat.le_of_ble_eq_true rfl⟩ ⟨by first | omega | (dsimp only; omega), by first | omega | (dsimp only; omega)⟩ (Nat.le_of_ble_eq_true rfl) dJ22_square_48 (fun H_4 locs hp hex hS => ?_)
  have sz_H_4 : H_3.size ≤ H_4.size := hex.1
  have hO1 := hO1.ex hex (by intro h; (try dsimp only [gfr] at h) <;> omega)
  have hM1 := hM1.ex hex (by intro h; (try dsimp only [gfr] at h) <;> omega)
  have hml3 := hml3.ex hex (by intro h; (try dsimp only [gfr] at h) <;> omega)
  have hst := hst.ex hex (by intro h; (try dsimp only [gfr] at h) <;> omega)
  have hB := hp
  refine g_aret hx hb hr hlocks (Or.inl ⟨_, rfl⟩) hS (by first | omega | (dsimp only; omega)) (by first | omega | (dsimp only; omega)) ?_ dJ22_square_51
  have hB2 := bI_mk hB hst (fun j => hml2 (i + j)) hss hVp (hi3 hlt) (by omega)
  exact ⟨rt, _, _, by omega, by omega, hB2⟩
set_option maxHeartbeats 1000000 in
theorem m_square (l : Launch) (z : State) (H0 : Heap) (a : Nat) (V1 : Nat) (w1 : Bool) (m1 n1 : Nat) (d1 : Nat → Nat) (hV1 : 0 < V1) (hn91 : n1 ≤ 20) (hb1 : bI z w1 H0 a m1 n1 d1 V1) (hzw : zW z) : Met l yJ22_square_2 (ws_ yJ22_square_2 cJ22_square_2 1 (some (.object "java/math/BigInteger"))) { frames := 6, cells := 3, slots := (4 * n1 + 6), locals := 145 } (gPc z H0 [.ref a]) (gRr (gfr H0) H0 (fun r H1 => ∃ mr nr dr, H0.size ≤ r ∧ H0.size ≤ mr ∧ bI z true H1 r mr nr dr ((V1 * V1 : Nat) : Int))) 3 (4 * n1 + 6) (gfr H0) := by
  refine g_start (by decide +kernel) (Nat.le_of_ble_eq_true rfl) ?_
  intro p e s m below meth c ls hx hb hr hlocks hml hown hname hts hwm hl
  have hown : s.vm.findClass "java/math/BigInteger" = some m.cls := hown
  have hal : z.vm.Alike s.vm := hwm.alike
  have hCF : CallFix p m c cJ22_square_2 1 s [.ref a].toArray lw_all "java/math/BigInteger" := ⟨hx, hb, hml, hown, hts⟩
  have hl : lv_has ls 1 [(0, .ref a)] := hl
  have hS : va_S (gfr H0) H0 H0 [] := va_S.rf
  have hb1x := hb1
  obtain ⟨c11, c21, c31, c41, hO1, hM1, hd1, hv1, h01, hn1, hca1⟩ := hb1
  rw [sg_pos (show (0 : Int) < (V1 : Int) by omega)] at hO1
  have hv1 : val d1 n1 = V1 := by rw [hv1]; omega
  have hnp1 := n_pos hv1 hV1
  have h01 := h01 hnp1
  have lt_a := hO1.lt
  have lt_m1 := hM1.lt
  refine lv_aload_n hx hb dJ22_square_2_0 rfl (lv_at hl 0 rfl) ?_
  refine lv_iconst (v := 0) hx hb dJ22_square_2_1 (by decide) ?_
  refine lv_iconst (v := 0) hx hb dJ22_square_2_2 (by decide) ?_
  refine lv_iconst (v := 0) hx hb dJ22_square_2_3 (by decide) ?_
  have hsz := hS.1
  refine gcV3_r hCF hwm hl.1 (m_square4 l z H0 a V1 w1 m1 n1 d1 hV1 hn91 hb1x hzw ) (lw_V q1207 q1209 qs19 q83 q1210) ydv_J22_square (hO1.recv hal) hS (fun q h => Nat.le_trans hS.1 h) ⟨Nat.le_of_ble_eq_true rfl, Nat.le_of_ble_eq_true rfl⟩ ⟨by first | omega | (dsimp only; omega), by first | omega | (dsimp only; omega)⟩ (Nat.le_of_ble_eq_true rfl) dJ22_square_2_4 (fun rs H_1 locs hp hex hS => ?_)
  have sz_H_1 : H0.size ≤ H_1.size := hex.1
  have hgx := hex.x
  clear hex
  have hO1 := hO1.x hgx
  have hM1 := hM1.x hgx
  have hN := hp
  refine g_aret hx hb hr hlocks (Or.inl ⟨_, rfl⟩) hS (by first | omega | (dsimp only; omega)) (by first | omega | (dsimp only; omega)) ?_ dJ22_square_2_7
  exact hN
