/-! ## walks (written by tools) -/
set_option maxRecDepth 100000
def dkwJ17_bitCount_2 : List UInt8 := [26, 16, 63, 126, 172]
abbrev dktJ17_bitCount_2 : List UInt8 := dkwJ17_bitCount_2 ++ []
def dkwJ17_bitCount_1 : List UInt8 := [26, 26, 7, 124, 96, 19, 1, 11, 126, 59, 26, 26, 16, 8, 124, 96, 59, 26, 26, 16, 16, 124, 96, 59]
abbrev dktJ17_bitCount_1 : List UInt8 := dkwJ17_bitCount_1 ++ dktJ17_bitCount_2
def dkwJ17_bitCount_0 : List UInt8 := [26, 26, 4, 124, 19, 1, 9, 126, 100, 59, 26, 19, 1, 10, 126, 26, 5, 124, 19, 1, 10, 126, 96, 59]
abbrev dktJ17_bitCount_0 : List UInt8 := dkwJ17_bitCount_0 ++ dktJ17_bitCount_1
theorem dksJ17_bitCount_0 : cJ17_bitCount.data.toList.drop 0 = dktJ17_bitCount_0 := by decide +kernel
theorem dksJ17_bitCount_1 : cJ17_bitCount.data.toList.drop 24 = dktJ17_bitCount_1 := dk_seg dksJ17_bitCount_0 24 rfl rfl
theorem dksJ17_bitCount_2 : cJ17_bitCount.data.toList.drop 48 = dktJ17_bitCount_2 := dk_seg dksJ17_bitCount_1 24 rfl rfl
theorem dJ17_bitCount_0 : decode cJ17_bitCount 0 = .ok (.iload_n 0, 1) := dk_26 (dk_at dksJ17_bitCount_0 0 rfl rfl)
theorem dJ17_bitCount_1 : decode cJ17_bitCount 1 = .ok (.iload_n 0, 1) := dk_26 (dk_at dksJ17_bitCount_0 1 rfl rfl)
theorem dJ17_bitCount_2 : decode cJ17_bitCount 2 = .ok (.iconst 1, 1) := dk_4 (dk_at dksJ17_bitCount_0 2 rfl rfl)
theorem dJ17_bitCount_3 : decode cJ17_bitCount 3 = .ok (.iushr, 1) := dk_124 (dk_at dksJ17_bitCount_0 3 rfl rfl)
theorem dJ17_bitCount_4 : decode cJ17_bitCount 4 = .ok (.ldc_w 265, 3) := dk_19 1 9 (dk_at dksJ17_bitCount_0 4 rfl rfl)
theorem dJ17_bitCount_7 : decode cJ17_bitCount 7 = .ok (.iand, 1) := dk_126 (dk_at dksJ17_bitCount_0 7 rfl rfl)
theorem dJ17_bitCount_8 : decode cJ17_bitCount 8 = .ok (.isub, 1) := dk_100 (dk_at dksJ17_bitCount_0 8 rfl rfl)
theorem dJ17_bitCount_9 : decode cJ17_bitCount 9 = .ok (.istore_n 0, 1) := dk_59 (dk_at dksJ17_bitCount_0 9 rfl rfl)
theorem dJ17_bitCount_10 : decode cJ17_bitCount 10 = .ok (.iload_n 0, 1) := dk_26 (dk_at dksJ17_bitCount_0 10 rfl rfl)
theorem dJ17_bitCount_11 : decode cJ17_bitCount 11 = .ok (.ldc_w 266, 3) := dk_19 1 10 (dk_at dksJ17_bitCount_0 11 rfl rfl)
theorem dJ17_bitCount_14 : decode cJ17_bitCount 14 = .ok (.iand, 1) := dk_126 (dk_at dksJ17_bitCount_0 14 rfl rfl)
theorem dJ17_bitCount_15 : decode cJ17_bitCount 15 = .ok (.iload_n 0, 1) := dk_26 (dk_at dksJ17_bitCount_0 15 rfl rfl)
theorem dJ17_bitCount_16 : decode cJ17_bitCount 16 = .ok (.iconst 2, 1) := dk_5 (dk_at dksJ17_bitCount_0 16 rfl rfl)
theorem dJ17_bitCount_17 : decode cJ17_bitCount 17 = .ok (.iushr, 1) := dk_124 (dk_at dksJ17_bitCount_0 17 rfl rfl)
theorem dJ17_bitCount_18 : decode cJ17_bitCount 18 = .ok (.ldc_w 266, 3) := dk_19 1 10 (dk_at dksJ17_bitCount_0 18 rfl rfl)
theorem dJ17_bitCount_21 : decode cJ17_bitCount 21 = .ok (.iand, 1) := dk_126 (dk_at dksJ17_bitCount_0 21 rfl rfl)
theorem dJ17_bitCount_22 : decode cJ17_bitCount 22 = .ok (.iadd, 1) := dk_96 (dk_at dksJ17_bitCount_0 22 rfl rfl)
theorem dJ17_bitCount_23 : decode cJ17_bitCount 23 = .ok (.istore_n 0, 1) := dk_59 (dk_at dksJ17_bitCount_0 23 rfl rfl)
theorem dJ17_bitCount_24 : decode cJ17_bitCount 24 = .ok (.iload_n 0, 1) := dk_26 (dk_at dksJ17_bitCount_1 0 rfl rfl)
theorem dJ17_bitCount_25 : decode cJ17_bitCount 25 = .ok (.iload_n 0, 1) := dk_26 (dk_at dksJ17_bitCount_1 1 rfl rfl)
theorem dJ17_bitCount_26 : decode cJ17_bitCount 26 = .ok (.iconst 4, 1) := dk_7 (dk_at dksJ17_bitCount_1 2 rfl rfl)
theorem dJ17_bitCount_27 : decode cJ17_bitCount 27 = .ok (.iushr, 1) := dk_124 (dk_at dksJ17_bitCount_1 3 rfl rfl)
theorem dJ17_bitCount_28 : decode cJ17_bitCount 28 = .ok (.iadd, 1) := dk_96 (dk_at dksJ17_bitCount_1 4 rfl rfl)
theorem dJ17_bitCount_29 : decode cJ17_bitCount 29 = .ok (.ldc_w 267, 3) := dk_19 1 11 (dk_at dksJ17_bitCount_1 5 rfl rfl)
theorem dJ17_bitCount_32 : decode cJ17_bitCount 32 = .ok (.iand, 1) := dk_126 (dk_at dksJ17_bitCount_1 8 rfl rfl)
theorem dJ17_bitCount_33 : decode cJ17_bitCount 33 = .ok (.istore_n 0, 1) := dk_59 (dk_at dksJ17_bitCount_1 9 rfl rfl)
theorem dJ17_bitCount_34 : decode cJ17_bitCount 34 = .ok (.iload_n 0, 1) := dk_26 (dk_at dksJ17_bitCount_1 10 rfl rfl)
theorem dJ17_bitCount_35 : decode cJ17_bitCount 35 = .ok (.iload_n 0, 1) := dk_26 (dk_at dksJ17_bitCount_1 11 rfl rfl)
theorem dJ17_bitCount_36 : decode cJ17_bitCount 36 = .ok (.bipush 8, 2) := dk_16 8 (dk_at dksJ17_bitCount_1 12 rfl rfl)
theorem dJ17_bitCount_38 : decode cJ17_bitCount 38 = .ok (.iushr, 1) := dk_124 (dk_at dksJ17_bitCount_1 14 rfl rfl)
theorem dJ17_bitCount_39 : decode cJ17_bitCount 39 = .ok (.iadd, 1) := dk_96 (dk_at dksJ17_bitCount_1 15 rfl rfl)
theorem dJ17_bitCount_40 : decode cJ17_bitCount 40 = .ok (.istore_n 0, 1) := dk_59 (dk_at dksJ17_bitCount_1 16 rfl rfl)
theorem dJ17_bitCount_41 : decode cJ17_bitCount 41 = .ok (.iload_n 0, 1) := dk_26 (dk_at dksJ17_bitCount_1 17 rfl rfl)
theorem dJ17_bitCount_42 : decode cJ17_bitCount 42 = .ok (.iload_n 0, 1) := dk_26 (dk_at dksJ17_bitCount_1 18 rfl rfl)
theorem dJ17_bitCount_43 : decode cJ17_bitCount 43 = .ok (.bipush 16, 2) := dk_16 16 (dk_at dksJ17_bitCount_1 19 rfl rfl)
theorem dJ17_bitCount_45 : decode cJ17_bitCount 45 = .ok (.iushr, 1) := dk_124 (dk_at dksJ17_bitCount_1 21 rfl rfl)
theorem dJ17_bitCount_46 : decode cJ17_bitCount 46 = .ok (.iadd, 1) := dk_96 (dk_at dksJ17_bitCount_1 22 rfl rfl)
theorem dJ17_bitCount_47 : decode cJ17_bitCount 47 = .ok (.istore_n 0, 1) := dk_59 (dk_at dksJ17_bitCount_1 23 rfl rfl)
theorem dJ17_bitCount_48 : decode cJ17_bitCount 48 = .ok (.iload_n 0, 1) := dk_26 (dk_at dksJ17_bitCount_2 0 rfl rfl)
theorem dJ17_bitCount_49 : decode cJ17_bitCount 49 = .ok (.bipush 63, 2) := dk_16 63 (dk_at dksJ17_bitCount_2 1 rfl rfl)
theorem dJ17_bitCount_51 : decode cJ17_bitCount 51 = .ok (.iand, 1) := dk_126 (dk_at dksJ17_bitCount_2 3 rfl rfl)
theorem dJ17_bitCount_52 : decode cJ17_bitCount 52 = .ok (.ireturn, 1) := dk_172 (dk_at dksJ17_bitCount_2 4 rfl rfl)
def dkwJ17_numberOfLeadingZeros_3 : List UInt8 := [5, 124, 59, 27, 26, 4, 124, 100, 172]
abbrev dktJ17_numberOfLeadingZeros_3 : List UInt8 := dkwJ17_numberOfLeadingZeros_3 ++ []
def dkwJ17_numberOfLeadingZeros_2 : List UInt8 := [124, 59, 26, 16, 16, 161, 0, 10, 132, 1, 252, 26, 7, 124, 59, 26, 7, 161, 0, 10, 132, 1, 254, 26]
abbrev dktJ17_numberOfLeadingZeros_2 : List UInt8 := dkwJ17_numberOfLeadingZeros_2 ++ dktJ17_numberOfLeadingZeros_3
def dkwJ17_numberOfLeadingZeros_1 : List UInt8 := [161, 0, 11, 132, 1, 240, 26, 16, 16, 124, 59, 26, 17, 1, 0, 161, 0, 11, 132, 1, 248, 26, 16, 8]
abbrev dktJ17_numberOfLeadingZeros_1 : List UInt8 := dkwJ17_numberOfLeadingZeros_1 ++ dktJ17_numberOfLeadingZeros_2
def dkwJ17_numberOfLeadingZeros_0 : List UInt8 := [26, 157, 0, 14, 26, 154, 0, 8, 16, 32, 167, 0, 4, 3, 172, 16, 31, 60, 26, 19, 1, 8]
abbrev dktJ17_numberOfLeadingZeros_0 : List UInt8 := dkwJ17_numberOfLeadingZeros_0 ++ dktJ17_numberOfLeadingZeros_1
theorem dksJ17_numberOfLeadingZeros_0 : cJ17_numberOfLeadingZeros.data.toList.drop 0 = dktJ17_numberOfLeadingZeros_0 := by decide +kernel
theorem dksJ17_numberOfLeadingZeros_1 : cJ17_numberOfLeadingZeros.data.toList.drop 22 = dktJ17_numberOfLeadingZeros_1 := dk_seg dksJ17_numberOfLeadingZeros_0 22 rfl rfl
theorem dksJ17_numberOfLeadingZeros_2 : cJ17_numberOfLeadingZeros.data.toList.drop 46 = dktJ17_numberOfLeadingZeros_2 := dk_seg dksJ17_numberOfLeadingZeros_1 24 rfl rfl
theorem dksJ17_numberOfLeadingZeros_3 : cJ17_numberOfLeadingZeros.data.toList.drop 70 = dktJ17_numberOfLeadingZeros_3 := dk_seg dksJ17_numberOfLeadingZeros_2 24 rfl rfl
theorem dJ17_numberOfLeadingZeros_0 : decode cJ17_numberOfLeadingZeros 0 = .ok (.iload_n 0, 1) := dk_26 (dk_at dksJ17_numberOfLeadingZeros_0 0 rfl rfl)
theorem dJ17_numberOfLeadingZeros_1 : decode cJ17_numberOfLeadingZeros 1 = .ok (.ifCond .gt 14, 3) := dk_157 0 14 (dk_at dksJ17_numberOfLeadingZeros_0 1 rfl rfl)
theorem dJ17_numberOfLeadingZeros_4 : decode cJ17_numberOfLeadingZeros 4 = .ok (.iload_n 0, 1) := dk_26 (dk_at dksJ17_numberOfLeadingZeros_0 4 rfl rfl)
theorem dJ17_numberOfLeadingZeros_5 : decode cJ17_numberOfLeadingZeros 5 = .ok (.ifCond .ne 8, 3) := dk_154 0 8 (dk_at dksJ17_numberOfLeadingZeros_0 5 rfl rfl)
theorem dJ17_numberOfLeadingZeros_8 : decode cJ17_numberOfLeadingZeros 8 = .ok (.bipush 32, 2) := dk_16 32 (dk_at dksJ17_numberOfLeadingZeros_0 8 rfl rfl)
theorem dJ17_numberOfLeadingZeros_10 : decode cJ17_numberOfLeadingZeros 10 = .ok (.goto 4, 3) := dk_167 0 4 (dk_at dksJ17_numberOfLeadingZeros_0 10 rfl rfl)
theorem dJ17_numberOfLeadingZeros_13 : decode cJ17_numberOfLeadingZeros 13 = .ok (.iconst 0, 1) := dk_3 (dk_at dksJ17_numberOfLeadingZeros_0 13 rfl rfl)
theorem dJ17_numberOfLeadingZeros_14 : decode cJ17_numberOfLeadingZeros 14 = .ok (.ireturn, 1) := dk_172 (dk_at dksJ17_numberOfLeadingZeros_0 14 rfl rfl)
theorem dJ17_numberOfLeadingZeros_15 : decode cJ17_numberOfLeadingZeros 15 = .ok (.bipush 31, 2) := dk_16 31 (dk_at dksJ17_numberOfLeadingZeros_0 15 rfl rfl)
theorem dJ17_numberOfLeadingZeros_17 : decode cJ17_numberOfLeadingZeros 17 = .ok (.istore_n 1, 1) := dk_60 (dk_at dksJ17_numberOfLeadingZeros_0 17 rfl rfl)
theorem dJ17_numberOfLeadingZeros_18 : decode cJ17_numberOfLeadingZeros 18 = .ok (.iload_n 0, 1) := dk_26 (dk_at dksJ17_numberOfLeadingZeros_0 18 rfl rfl)
theorem dJ17_numberOfLeadingZeros_19 : decode cJ17_numberOfLeadingZeros 19 = .ok (.ldc_w 264, 3) := dk_19 1 8 (dk_at dksJ17_numberOfLeadingZeros_0 19 rfl rfl)
theorem dJ17_numberOfLeadingZeros_22 : decode cJ17_numberOfLeadingZeros 22 = .ok (.if_icmp .lt 11, 3) := dk_161 0 11 (dk_at dksJ17_numberOfLeadingZeros_1 0 rfl rfl)
theorem dJ17_numberOfLeadingZeros_25 : decode cJ17_numberOfLeadingZeros 25 = .ok (.iinc 1 (-16), 3) := dk_132 1 240 (dk_at dksJ17_numberOfLeadingZeros_1 3 rfl rfl)
theorem dJ17_numberOfLeadingZeros_28 : decode cJ17_numberOfLeadingZeros 28 = .ok (.iload_n 0, 1) := dk_26 (dk_at dksJ17_numberOfLeadingZeros_1 6 rfl rfl)
theorem dJ17_numberOfLeadingZeros_29 : decode cJ17_numberOfLeadingZeros 29 = .ok (.bipush 16, 2) := dk_16 16 (dk_at dksJ17_numberOfLeadingZeros_1 7 rfl rfl)
theorem dJ17_numberOfLeadingZeros_31 : decode cJ17_numberOfLeadingZeros 31 = .ok (.iushr, 1) := dk_124 (dk_at dksJ17_numberOfLeadingZeros_1 9 rfl rfl)
theorem dJ17_numberOfLeadingZeros_32 : decode cJ17_numberOfLeadingZeros 32 = .ok (.istore_n 0, 1) := dk_59 (dk_at dksJ17_numberOfLeadingZeros_1 10 rfl rfl)
theorem dJ17_numberOfLeadingZeros_33 : decode cJ17_numberOfLeadingZeros 33 = .ok (.iload_n 0, 1) := dk_26 (dk_at dksJ17_numberOfLeadingZeros_1 11 rfl rfl)
theorem dJ17_numberOfLeadingZeros_34 : decode cJ17_numberOfLeadingZeros 34 = .ok (.sipush 256, 3) := dk_17 1 0 (dk_at dksJ17_numberOfLeadingZeros_1 12 rfl rfl)
theorem dJ17_numberOfLeadingZeros_37 : decode cJ17_numberOfLeadingZeros 37 = .ok (.if_icmp .lt 11, 3) := dk_161 0 11 (dk_at dksJ17_numberOfLeadingZeros_1 15 rfl rfl)
theorem dJ17_numberOfLeadingZeros_40 : decode cJ17_numberOfLeadingZeros 40 = .ok (.iinc 1 (-8), 3) := dk_132 1 248 (dk_at dksJ17_numberOfLeadingZeros_1 18 rfl rfl)
theorem dJ17_numberOfLeadingZeros_43 : decode cJ17_numberOfLeadingZeros 43 = .ok (.iload_n 0, 1) := dk_26 (dk_at dksJ17_numberOfLeadingZeros_1 21 rfl rfl)
theorem dJ17_numberOfLeadingZeros_44 : decode cJ17_numberOfLeadingZeros 44 = .ok (.bipush 8, 2) := dk_16 8 (dk_at dksJ17_numberOfLeadingZeros_1 22 rfl rfl)
theorem dJ17_numberOfLeadingZeros_46 : decode cJ17_numberOfLeadingZeros 46 = .ok (.iushr, 1) := dk_124 (dk_at dksJ17_numberOfLeadingZeros_2 0 rfl rfl)
theorem dJ17_numberOfLeadingZeros_47 : decode cJ17_numberOfLeadingZeros 47 = .ok (.istore_n 0, 1) := dk_59 (dk_at dksJ17_numberOfLeadingZeros_2 1 rfl rfl)
theorem dJ17_numberOfLeadingZeros_48 : decode cJ17_numberOfLeadingZeros 48 = .ok (.iload_n 0, 1) := dk_26 (dk_at dksJ17_numberOfLeadingZeros_2 2 rfl rfl)
theorem dJ17_numberOfLeadingZeros_49 : decode cJ17_numberOfLeadingZeros 49 = .ok (.bipush 16, 2) := dk_16 16 (dk_at dksJ17_numberOfLeadingZeros_2 3 rfl rfl)
theorem dJ17_numberOfLeadingZeros_51 : decode cJ17_numberOfLeadingZeros 51 = .ok (.if_icmp .lt 10, 3) := dk_161 0 10 (dk_at dksJ17_numberOfLeadingZeros_2 5 rfl rfl)
theorem dJ17_numberOfLeadingZeros_54 : decode cJ17_numberOfLeadingZeros 54 = .ok (.iinc 1 (-4), 3) := dk_132 1 252 (dk_at dksJ17_numberOfLeadingZeros_2 8 rfl rfl)
theorem dJ17_numberOfLeadingZeros_57 : decode cJ17_numberOfLeadingZeros 57 = .ok (.iload_n 0, 1) := dk_26 (dk_at dksJ17_numberOfLeadingZeros_2 11 rfl rfl)
theorem dJ17_numberOfLeadingZeros_58 : decode cJ17_numberOfLeadingZeros 58 = .ok (.iconst 4, 1) := dk_7 (dk_at dksJ17_numberOfLeadingZeros_2 12 rfl rfl)
theorem dJ17_numberOfLeadingZeros_59 : decode cJ17_numberOfLeadingZeros 59 = .ok (.iushr, 1) := dk_124 (dk_at dksJ17_numberOfLeadingZeros_2 13 rfl rfl)
theorem dJ17_numberOfLeadingZeros_60 : decode cJ17_numberOfLeadingZeros 60 = .ok (.istore_n 0, 1) := dk_59 (dk_at dksJ17_numberOfLeadingZeros_2 14 rfl rfl)
theorem dJ17_numberOfLeadingZeros_61 : decode cJ17_numberOfLeadingZeros 61 = .ok (.iload_n 0, 1) := dk_26 (dk_at dksJ17_numberOfLeadingZeros_2 15 rfl rfl)
theorem dJ17_numberOfLeadingZeros_62 : decode cJ17_numberOfLeadingZeros 62 = .ok (.iconst 4, 1) := dk_7 (dk_at dksJ17_numberOfLeadingZeros_2 16 rfl rfl)
theorem dJ17_numberOfLeadingZeros_63 : decode cJ17_numberOfLeadingZeros 63 = .ok (.if_icmp .lt 10, 3) := dk_161 0 10 (dk_at dksJ17_numberOfLeadingZeros_2 17 rfl rfl)
theorem dJ17_numberOfLeadingZeros_66 : decode cJ17_numberOfLeadingZeros 66 = .ok (.iinc 1 (-2), 3) := dk_132 1 254 (dk_at dksJ17_numberOfLeadingZeros_2 20 rfl rfl)
theorem dJ17_numberOfLeadingZeros_69 : decode cJ17_numberOfLeadingZeros 69 = .ok (.iload_n 0, 1) := dk_26 (dk_at dksJ17_numberOfLeadingZeros_2 23 rfl rfl)
theorem dJ17_numberOfLeadingZeros_70 : decode cJ17_numberOfLeadingZeros 70 = .ok (.iconst 2, 1) := dk_5 (dk_at dksJ17_numberOfLeadingZeros_3 0 rfl rfl)
theorem dJ17_numberOfLeadingZeros_71 : decode cJ17_numberOfLeadingZeros 71 = .ok (.iushr, 1) := dk_124 (dk_at dksJ17_numberOfLeadingZeros_3 1 rfl rfl)
theorem dJ17_numberOfLeadingZeros_72 : decode cJ17_numberOfLeadingZeros 72 = .ok (.istore_n 0, 1) := dk_59 (dk_at dksJ17_numberOfLeadingZeros_3 2 rfl rfl)
theorem dJ17_numberOfLeadingZeros_73 : decode cJ17_numberOfLeadingZeros 73 = .ok (.iload_n 1, 1) := dk_27 (dk_at dksJ17_numberOfLeadingZeros_3 3 rfl rfl)
theorem dJ17_numberOfLeadingZeros_74 : decode cJ17_numberOfLeadingZeros 74 = .ok (.iload_n 0, 1) := dk_26 (dk_at dksJ17_numberOfLeadingZeros_3 4 rfl rfl)
theorem dJ17_numberOfLeadingZeros_75 : decode cJ17_numberOfLeadingZeros 75 = .ok (.iconst 1, 1) := dk_4 (dk_at dksJ17_numberOfLeadingZeros_3 5 rfl rfl)
theorem dJ17_numberOfLeadingZeros_76 : decode cJ17_numberOfLeadingZeros 76 = .ok (.iushr, 1) := dk_124 (dk_at dksJ17_numberOfLeadingZeros_3 6 rfl rfl)
theorem dJ17_numberOfLeadingZeros_77 : decode cJ17_numberOfLeadingZeros 77 = .ok (.isub, 1) := dk_100 (dk_at dksJ17_numberOfLeadingZeros_3 7 rfl rfl)
theorem dJ17_numberOfLeadingZeros_78 : decode cJ17_numberOfLeadingZeros 78 = .ok (.ireturn, 1) := dk_172 (dk_at dksJ17_numberOfLeadingZeros_3 8 rfl rfl)
def dkwJ22_bitLengthForInt_0 : List UInt8 := [16, 32, 26, 184, 2, 90, 100, 172]
abbrev dktJ22_bitLengthForInt_0 : List UInt8 := dkwJ22_bitLengthForInt_0 ++ []
theorem dksJ22_bitLengthForInt_0 : cJ22_bitLengthForInt.data.toList.drop 0 = dktJ22_bitLengthForInt_0 := by decide +kernel
theorem dJ22_bitLengthForInt_0 : decode cJ22_bitLengthForInt 0 = .ok (.bipush 32, 2) := dk_16 32 (dk_at dksJ22_bitLengthForInt_0 0 rfl rfl)
theorem dJ22_bitLengthForInt_2 : decode cJ22_bitLengthForInt 2 = .ok (.iload_n 0, 1) := dk_26 (dk_at dksJ22_bitLengthForInt_0 2 rfl rfl)
theorem dJ22_bitLengthForInt_3 : decode cJ22_bitLengthForInt 3 = .ok (.invokestatic 602, 3) := dk_184 2 90 (dk_at dksJ22_bitLengthForInt_0 3 rfl rfl)
theorem dJ22_bitLengthForInt_6 : decode cJ22_bitLengthForInt 6 = .ok (.isub, 1) := dk_100 (dk_at dksJ22_bitLengthForInt_0 6 rfl rfl)
theorem dJ22_bitLengthForInt_7 : decode cJ22_bitLengthForInt 7 = .ok (.ireturn, 1) := dk_172 (dk_at dksJ22_bitLengthForInt_0 7 rfl rfl)
def dkwJ22_shiftLeftImplWorker_1 : List UInt8 := [132, 6, 1, 46, 29, 120, 43, 21, 6, 46, 21, 5, 124, 128, 79, 167, 255, 226, 177]
abbrev dktJ22_shiftLeftImplWorker_1 : List UInt8 := dkwJ22_shiftLeftImplWorker_1 ++ []
def dkwJ22_shiftLeftImplWorker_0 : List UInt8 := [16, 32, 29, 100, 54, 5, 3, 54, 6, 21, 6, 21, 4, 162, 0, 29, 42, 28, 132, 2, 1, 43, 21, 6]
abbrev dktJ22_shiftLeftImplWorker_0 : List UInt8 := dkwJ22_shiftLeftImplWorker_0 ++ dktJ22_shiftLeftImplWorker_1
theorem dksJ22_shiftLeftImplWorker_0 : cJ22_shiftLeftImplWorker.data.toList.drop 0 = dktJ22_shiftLeftImplWorker_0 := by decide +kernel
theorem dksJ22_shiftLeftImplWorker_1 : cJ22_shiftLeftImplWorker.data.toList.drop 24 = dktJ22_shiftLeftImplWorker_1 := dk_seg dksJ22_shiftLeftImplWorker_0 24 rfl rfl
theorem dJ22_shiftLeftImplWorker_0 : decode cJ22_shiftLeftImplWorker 0 = .ok (.bipush 32, 2) := dk_16 32 (dk_at dksJ22_shiftLeftImplWorker_0 0 rfl rfl)
theorem dJ22_shiftLeftImplWorker_2 : decode cJ22_shiftLeftImplWorker 2 = .ok (.iload_n 3, 1) := dk_29 (dk_at dksJ22_shiftLeftImplWorker_0 2 rfl rfl)
theorem dJ22_shiftLeftImplWorker_3 : decode cJ22_shiftLeftImplWorker 3 = .ok (.isub, 1) := dk_100 (dk_at dksJ22_shiftLeftImplWorker_0 3 rfl rfl)
theorem dJ22_shiftLeftImplWorker_4 : decode cJ22_shiftLeftImplWorker 4 = .ok (.istore 5, 2) := dk_54 5 (dk_at dksJ22_shiftLeftImplWorker_0 4 rfl rfl)
theorem dJ22_shiftLeftImplWorker_6 : decode cJ22_shiftLeftImplWorker 6 = .ok (.iconst 0, 1) := dk_3 (dk_at dksJ22_shiftLeftImplWorker_0 6 rfl rfl)
theorem dJ22_shiftLeftImplWorker_7 : decode cJ22_shiftLeftImplWorker 7 = .ok (.istore 6, 2) := dk_54 6 (dk_at dksJ22_shiftLeftImplWorker_0 7 rfl rfl)
theorem dJ22_shiftLeftImplWorker_9 : decode cJ22_shiftLeftImplWorker 9 = .ok (.iload 6, 2) := dk_21 6 (dk_at dksJ22_shiftLeftImplWorker_0 9 rfl rfl)
theorem dJ22_shiftLeftImplWorker_11 : decode cJ22_shiftLeftImplWorker 11 = .ok (.iload 4, 2) := dk_21 4 (dk_at dksJ22_shiftLeftImplWorker_0 11 rfl rfl)
theorem dJ22_shiftLeftImplWorker_13 : decode cJ22_shiftLeftImplWorker 13 = .ok (.if_icmp .ge 29, 3) := dk_162 0 29 (dk_at dksJ22_shiftLeftImplWorker_0 13 rfl rfl)
theorem dJ22_shiftLeftImplWorker_16 : decode cJ22_shiftLeftImplWorker 16 = .ok (.aload_n 0, 1) := dk_42 (dk_at dksJ22_shiftLeftImplWorker_0 16 rfl rfl)
theorem dJ22_shiftLeftImplWorker_17 : decode cJ22_shiftLeftImplWorker 17 = .ok (.iload_n 2, 1) := dk_28 (dk_at dksJ22_shiftLeftImplWorker_0 17 rfl rfl)
theorem dJ22_shiftLeftImplWorker_18 : decode cJ22_shiftLeftImplWorker 18 = .ok (.iinc 2 1, 3) := dk_132 2 1 (dk_at dksJ22_shiftLeftImplWorker_0 18 rfl rfl)
theorem dJ22_shiftLeftImplWorker_21 : decode cJ22_shiftLeftImplWorker 21 = .ok (.aload_n 1, 1) := dk_43 (dk_at dksJ22_shiftLeftImplWorker_0 21 rfl rfl)
theorem dJ22_shiftLeftImplWorker_22 : decode cJ22_shiftLeftImplWorker 22 = .ok (.iload 6, 2) := dk_21 6 (dk_at dksJ22_shiftLeftImplWorker_0 22 rfl rfl)
theorem dJ22_shiftLeftImplWorker_24 : decode cJ22_shiftLeftImplWorker 24 = .ok (.iinc 6 1, 3) := dk_132 6 1 (dk_at dksJ22_shiftLeftImplWorker_1 0 rfl rfl)
theorem dJ22_shiftLeftImplWorker_27 : decode cJ22_shiftLeftImplWorker 27 = .ok (.iaload, 1) := dk_46 (dk_at dksJ22_shiftLeftImplWorker_1 3 rfl rfl)
theorem dJ22_shiftLeftImplWorker_28 : decode cJ22_shiftLeftImplWorker 28 = .ok (.iload_n 3, 1) := dk_29 (dk_at dksJ22_shiftLeftImplWorker_1 4 rfl rfl)
theorem dJ22_shiftLeftImplWorker_29 : decode cJ22_shiftLeftImplWorker 29 = .ok (.ishl, 1) := dk_120 (dk_at dksJ22_shiftLeftImplWorker_1 5 rfl rfl)
theorem dJ22_shiftLeftImplWorker_30 : decode cJ22_shiftLeftImplWorker 30 = .ok (.aload_n 1, 1) := dk_43 (dk_at dksJ22_shiftLeftImplWorker_1 6 rfl rfl)
theorem dJ22_shiftLeftImplWorker_31 : decode cJ22_shiftLeftImplWorker 31 = .ok (.iload 6, 2) := dk_21 6 (dk_at dksJ22_shiftLeftImplWorker_1 7 rfl rfl)
theorem dJ22_shiftLeftImplWorker_33 : decode cJ22_shiftLeftImplWorker 33 = .ok (.iaload, 1) := dk_46 (dk_at dksJ22_shiftLeftImplWorker_1 9 rfl rfl)
theorem dJ22_shiftLeftImplWorker_34 : decode cJ22_shiftLeftImplWorker 34 = .ok (.iload 5, 2) := dk_21 5 (dk_at dksJ22_shiftLeftImplWorker_1 10 rfl rfl)
theorem dJ22_shiftLeftImplWorker_36 : decode cJ22_shiftLeftImplWorker 36 = .ok (.iushr, 1) := dk_124 (dk_at dksJ22_shiftLeftImplWorker_1 12 rfl rfl)
theorem dJ22_shiftLeftImplWorker_37 : decode cJ22_shiftLeftImplWorker 37 = .ok (.ior, 1) := dk_128 (dk_at dksJ22_shiftLeftImplWorker_1 13 rfl rfl)
theorem dJ22_shiftLeftImplWorker_38 : decode cJ22_shiftLeftImplWorker 38 = .ok (.iastore, 1) := dk_79 (dk_at dksJ22_shiftLeftImplWorker_1 14 rfl rfl)
theorem dJ22_shiftLeftImplWorker_39 : decode cJ22_shiftLeftImplWorker 39 = .ok (.goto (-30), 3) := dk_167 255 226 (dk_at dksJ22_shiftLeftImplWorker_1 15 rfl rfl)
theorem dJ22_shiftLeftImplWorker_42 : decode cJ22_shiftLeftImplWorker 42 = .ok (.return_, 1) := dk_177 (dk_at dksJ22_shiftLeftImplWorker_1 18 rfl rfl)
theorem yd_J17_numberOfLeadingZeros : yJ17_numberOfLeadingZeros.cls ≠ "java/lang/invoke/MethodHandle" ∧ yJ17_numberOfLeadingZeros.cls ≠ "java/lang/invoke/VarHandle" ∧ (parseMethodDescriptor yJ17_numberOfLeadingZeros.desc).map (fun d => d.parameters.length) = some 1 := by decide +kernel
/-! ### bits counted, digits moved up -/
theorem ai_and {x y : Int32} {a b : Nat} (hx : x = nI a) (hy : y = nI b) (ha : a < 4294967296) (hb : b < 4294967296) : x &&& y = nI (a &&& b) := by subst hx hy; exact nI_and a b ha hb
theorem ai_and1 {x : Int32} {a : Nat} (hx : x = nI a) (ha : a < 4294967296) : x &&& 1 = nI (a % 2) := by
  refine (ai_and (b := 1) hx rfl ha (by decide)).trans ?_
  rw [show (1 : Nat) = 2 ^ 1 - 1 from rfl, Nat.and_two_pow_sub_one_eq_mod]
theorem ai_and31 {x : Int32} {a : Nat} (hx : x = nI a) (ha : a < 4294967296) : x &&& 31 = nI (a % 32) := by
  refine (ai_and (b := 31) hx rfl ha (by decide)).trans ?_
  rw [show (31 : Nat) = 2 ^ 5 - 1 from rfl, Nat.and_two_pow_sub_one_eq_mod]
theorem ai_and63 {x : Int32} {a : Nat} (hx : x = nI a) (ha : a < 4294967296) : x &&& 63 = nI (a % 64) := by
  refine (ai_and (b := 63) hx rfl ha (by decide)).trans ?_
  rw [show (63 : Nat) = 2 ^ 6 - 1 from rfl, Nat.and_two_pow_sub_one_eq_mod]
theorem bc5_1 {Y : Nat} (h : Y < 4294967296) (h1 : bc5 Y = 1) : ∃ k, k < 32 ∧ Y = 2 ^ k := by
  obtain ⟨a, b, c, d, ha, hb, hc, hd, e⟩ := bytes Y h
  have q := (bc_all ha hb hc hd e).2.2.2.2.2.2
  exact pow_2 ha hb hc hd e (by omega)
theorem bc_bd {Y : Nat} (h : Y < 4294967296) : (Y / 2 &&& 1431655765) ≤ Y ∧ bc1 Y < 4294967296 ∧ bc2 Y < 2147483648 ∧ bc3 Y < 268435456 ∧ bc4 Y < 536870912 ∧ bc5 Y < 64 := by
  obtain ⟨a, b, c, d, ha, hb, hc, hd, e⟩ := bytes Y h
  have q := bc_all ha hb hc hd e
  exact ⟨q.2.1, q.2.2.1, q.2.2.2.1, q.2.2.2.2.1, q.2.2.2.2.2.1, by unfold bc5; omega⟩
theorem nI_pos_iff {Y : Nat} (h : Y < 4294967296) : 0 < nI Y ↔ 0 < Y ∧ Y < 2147483648 := by
  rcases Nat.lt_or_ge Y 2147483648 with q | q
  · rw [show (0 : Int32) = nI 0 from rfl, nI_ltI (by decide) q]
    omega
  · have e : (nI Y).toInt = (Y : Int) - 4294967296 := by
      have e1 : nI Y = iI ((Y : Int) - 4294967296) := by
        apply Int32.toBitVec_inj.mp
        apply BitVec.eq_of_toNat_eq
        show (BitVec.ofNat 32 Y).toNat = (BitVec.ofInt 32 ((Y : Int) - 4294967296)).toNat
        rw [BitVec.toNat_ofNat, BitVec.toNat_ofInt]
        omega
      rw [e1, iI_toInt (by omega) (by omega)]
    rw [Int32.lt_iff_toInt_lt, e]
    have e0 : (0 : Int32).toInt = 0 := by decide
    omega
/-- how many bits -/
def isBl (Y b : Nat) : Prop := Y < 2 ^ b ∧ (b = 0 ∨ 2 ^ (b - 1) ≤ Y)
theorem isBl_uniq {Y b c : Nat} (h : isBl Y b) (h2 : isBl Y c) : b = c := by
  unfold isBl at *
  have key : ∀ b c, Y < 2 ^ b → (c = 0 ∨ 2 ^ (c - 1) ≤ Y) → c ≤ b := by
    intro b c h1 h2
    rcases h2 with q | q
    · omega
    · refine Decidable.byContradiction fun r => ?_
      have : 2 ^ b ≤ 2 ^ (c - 1) := Nat.pow_le_pow_right (by decide) (by omega)
      omega
  have := key b c h.1 h2.2
  have := key c b h2.1 h.2
  omega
/-- the worker's digits: d's first t, moved up by s bits, laid into g from o on -/
def wk (d g : Nat → Nat) (o s t : Nat) : Nat → Nat := fun i => if o ≤ i ∧ i < o + t then (d (i - o) * 2 ^ s) % 4294967296 + d (i - o + 1) / 2 ^ (32 - s) else g i
theorem wk_0 (d g : Nat → Nat) (o s : Nat) : wk d g o s 0 = g := by
  funext i
  unfold wk
  rw [if_neg (by omega)]
theorem wk_s {d g : Nat → Nat} (hd : ∀ i, d i < 4294967296) {o s t : Nat} (hs : s < 32) (hs0 : 0 < s) : dup (wk d g o s t) (o + t) (((d t * 2 ^ s) % 4294967296 + d (t + 1) / 2 ^ (32 - s)) % 4294967296) = wk d g o s (t + 1) := by
  funext i
  rw [Nat.mod_eq_of_lt (sh_dig hs hs0 (hd (t + 1))).2.2]
  unfold dup wk
  by_cases h : i = o + t
  · subst h
    rw [if_pos rfl, if_pos (by omega), Nat.add_sub_cancel_left]
  · rw [if_neg h]
    by_cases h2 : o ≤ i ∧ i < o + t
    · rw [if_pos h2, if_pos (by omega)]
    · rw [if_neg h2, if_neg (by omega)]
theorem wk_lt {d g : Nat → Nat} (hd : ∀ i, d i < 4294967296) (hg : ∀ i, g i < 4294967296) {o s t : Nat} (hs : s < 32) (hs0 : 0 < s) : ∀ i, wk d g o s t i < 4294967296 := by
  intro i
  unfold wk
  split
  · exact (sh_dig hs hs0 (hd _)).2.2
  · exact hg i
/-- what a shift up by n gives -/
theorem sh_end {d g : Nat → Nat} (hd : ∀ i, d i < 4294967296) {o s n q : Nat} (hs : s < 32) (hs0 : 0 < s) (hn : 0 < n) (ho : o ≤ 1) (h0 : o = 0 → d 0 / 2 ^ (32 - s) = 0) (h1 : o = 1 → g 0 = d 0 / 2 ^ (32 - s)) (hz : ∀ i, o ≤ i → g i = 0) :
    val (dup (wk d g o s (n - 1)) (n - 1 + o) ((d (n - 1) * 2 ^ s) % 4294967296)) (n + q + o) = val d n * 2 ^ (32 * q + s) := by
  have hv := shl_val hd hs n n 0 (by omega) hn
  have e1 : seg (dup (wk d g o s (n - 1)) (n - 1 + o) ((d (n - 1) * 2 ^ s) % 4294967296)) o n = seg (shl d s n) 0 n := by
    unfold seg
    refine val_cg fun i hi => ?_
    unfold dup wk shl
    by_cases h : i = n - 1
    · subst h
      rw [if_pos (by omega), Nat.zero_add, if_neg (by omega)]
      omega
    · rw [if_neg (by omega), if_pos (by omega), Nat.zero_add, if_pos (by omega), show o + i - o = i by omega]
  have e2 : seg (dup (wk d g o s (n - 1)) (n - 1 + o) ((d (n - 1) * 2 ^ s) % 4294967296)) (o + n) q = 0 := by
    refine seg_zero fun i h2 h3 => ?_
    unfold dup wk
    rw [if_neg (by omega), if_neg (by omega)]
    exact hz i (by omega)
  have e3 : seg (dup (wk d g o s (n - 1)) (n - 1 + o) ((d (n - 1) * 2 ^ s) % 4294967296)) 0 o = d 0 / 2 ^ (32 - s) := by
    rcases Nat.lt_or_ge o 1 with h | h
    · have : o = 0 := by omega
      subst this
      rw [h0 rfl]
      rfl
    · have : o = 1 := by omega
      subst this
      rw [seg_r, seg_z]
      unfold dup wk
      rw [if_neg (by omega), if_neg (by omega)]
      simpa using h1 rfl
  rw [← seg_0, show n + q + o = o + (n + q) by omega, seg_app, Nat.zero_add, seg_app, e1, e2, e3, ← seg_0 d n]
  rw [show 2 ^ (32 * q + s) = 4294967296 ^ q * 2 ^ s by rw [Nat.pow_add, Nat.pow_mul], Nat.pow_add]
  generalize seg (shl d s n) 0 n = X at *
  generalize 4294967296 ^ q = Q at *
  generalize 4294967296 ^ n = N at *
  generalize seg d 0 n = D at *
  generalize 2 ^ s = E at *
  generalize d 0 / 2 ^ (32 - s) = C at *
  grind

set_option maxHeartbeats 1000000 in
theorem m_bitCount (l : Launch) (z : State) (H0 : Heap)  (Y : Nat) (hY : Y < 4294967296) : Met l yJ17_bitCount (ws_ yJ17_bitCount cJ17_bitCount 1 (some .int)) { frames := 0, cells := 0, slots := 0, locals := 0 } (gPc z H0 [.int (nI Y)]) (gPi H0 (fun r => r = nI (bc5 Y))) 0 0 gno := by
  refine g_start (by decide +kernel) (Nat.le_of_ble_eq_true rfl) ?_
  intro p e s m below meth c ls hx hb hr hlocks hml hown hname hts hwm hl
  have hown : s.vm.findClass "java/lang/Integer" = some m.cls := hown
  have hal : z.vm.Alike s.vm := hwm.alike
  have hCF : CallFix p m c cJ17_bitCount 1 s [.int (nI Y)].toArray lw_all "java/lang/Integer" := ⟨hx, hb, hml, hown, hts⟩
  have hl : lv_has ls 1 [(0, .int (nI Y))] := hl
  have hb := bc_bd hY
  obtain ⟨hb0, hb1, hb2, hb3, hb4, hb5⟩ := hb
  refine lv_iload_n hx hb dJ17_bitCount_0 rfl (lv_at hl 0 rfl) ?_
  refine lv_iload_n hx hb dJ17_bitCount_1 rfl (lv_at hl 0 rfl) ?_
  refine lv_iconst (v := 1) hx hb dJ17_bitCount_2 (by decide) ?_
  refine lv_iushr hx hb dJ17_bitCount_3 rfl ?_
  refine g_topi (v := nI (Y / 2)) (ai_ushr (a := Y) (k := 1) (rfl) (rfl) (by omega) (by omega)) ?_
  refine lv_ldcw (v := 1431655765) hx hb hown (hts _ q867) dJ17_bitCount_4 ?_
  refine lv_iand hx hb dJ17_bitCount_7 ?_
  refine g_topi (v := nI ((Y / 2) &&& 1431655765)) (ai_and (a := (Y / 2)) (b := 1431655765) (rfl) (rfl) (by omega) (by omega)) ?_
  refine lv_isub hx hb dJ17_bitCount_8 ?_
  refine g_topi (v := (nI (bc1 Y))) (by rw [pk_sub hb0]; rfl) ?_
  refine lv_istore_n hx hb dJ17_bitCount_9 rfl hl (by decide) rfl (fun ls hl => ?_)
  have hl : lv_has ls 1 [(0, .int (nI (bc1 Y)))] := hl
  refine lv_iload_n hx hb dJ17_bitCount_10 rfl (lv_at hl 0 rfl) ?_
  refine lv_ldcw (v := 858993459) hx hb hown (hts _ q868) dJ17_bitCount_11 ?_
  refine lv_iand hx hb dJ17_bitCount_14 ?_
  refine g_topi (v := nI ((bc1 Y) &&& 858993459)) (ai_and (a := (bc1 Y)) (b := 858993459) (rfl) (rfl) (by omega) (by omega)) ?_
  refine lv_iload_n hx hb dJ17_bitCount_15 rfl (lv_at hl 0 rfl) ?_
  refine lv_iconst (v := 2) hx hb dJ17_bitCount_16 (by decide) ?_
  refine lv_iushr hx hb dJ17_bitCount_17 rfl ?_
  refine g_topi (v := nI ((bc1 Y) / 4)) (ai_ushr (a := (bc1 Y)) (k := 2) (rfl) (rfl) (by omega) (by omega)) ?_
  refine lv_ldcw (v := 858993459) hx hb hown (hts _ q868) dJ17_bitCount_18 ?_
  refine lv_iand hx hb dJ17_bitCount_21 ?_
  refine g_topi (v := nI (((bc1 Y) / 4) &&& 858993459)) (ai_and (a := ((bc1 Y) / 4)) (b := 858993459) (rfl) (rfl) (by omega) (by omega)) ?_
  refine lv_iadd hx hb dJ17_bitCount_22 ?_
  refine g_topi (v := (nI (bc2 Y))) (by rw [nI_add]; rfl) ?_
  refine lv_istore_n hx hb dJ17_bitCount_23 rfl hl (by decide) rfl (fun ls hl => ?_)
  have hl : lv_has ls 1 [(0, .int (nI (bc2 Y)))] := hl
  refine lv_iload_n hx hb dJ17_bitCount_24 rfl (lv_at hl 0 rfl) ?_
  refine lv_iload_n hx hb dJ17_bitCount_25 rfl (lv_at hl 0 rfl) ?_
  refine lv_iconst (v := 4) hx hb dJ17_bitCount_26 (by decide) ?_
  refine lv_iushr hx hb dJ17_bitCount_27 rfl ?_
  refine g_topi (v := nI ((bc2 Y) / 16)) (ai_ushr (a := (bc2 Y)) (k := 4) (rfl) (rfl) (by omega) (by omega)) ?_
  refine lv_iadd hx hb dJ17_bitCount_28 ?_
  refine g_topi (v := nI (bc2 Y + ((bc2 Y) / 16))) (ai_add (a := (bc2 Y)) (b := ((bc2 Y) / 16)) (rfl) (rfl)) ?_
  refine lv_ldcw (v := 252645135) hx hb hown (hts _ q869) dJ17_bitCount_29 ?_
  refine lv_iand hx hb dJ17_bitCount_32 ?_
  refine g_topi (v := (nI (bc3 Y))) (ai_and (a := bc2 Y + bc2 Y / 16) (b := 252645135) rfl rfl (by omega) (by decide)) ?_
  refine lv_istore_n hx hb dJ17_bitCount_33 rfl hl (by decide) rfl (fun ls hl => ?_)
  have hl : lv_has ls 1 [(0, .int (nI (bc3 Y)))] := hl
  refine lv_iload_n hx hb dJ17_bitCount_34 rfl (lv_at hl 0 rfl) ?_
  refine lv_iload_n hx hb dJ17_bitCount_35 rfl (lv_at hl 0 rfl) ?_
  refine lv_bipush (v := 8) hx hb dJ17_bitCount_36 (by decide) ?_
  refine lv_iushr hx hb dJ17_bitCount_38 rfl ?_
  refine g_topi (v := nI ((bc3 Y) / 256)) (ai_ushr (a := (bc3 Y)) (k := 8) (rfl) (rfl) (by omega) (by omega)) ?_
  refine lv_iadd hx hb dJ17_bitCount_39 ?_
  refine g_topi (v := (nI (bc4 Y))) (by rw [nI_add]; rfl) ?_
  refine lv_istore_n hx hb dJ17_bitCount_40 rfl hl (by decide) rfl (fun ls hl => ?_)
  have hl : lv_has ls 1 [(0, .int (nI (bc4 Y)))] := hl
  refine lv_iload_n hx hb dJ17_bitCount_41 rfl (lv_at hl 0 rfl) ?_
  refine lv_iload_n hx hb dJ17_bitCount_42 rfl (lv_at hl 0 rfl) ?_
  refine lv_bipush (v := 16) hx hb dJ17_bitCount_43 (by decide) ?_
  refine lv_iushr hx hb dJ17_bitCount_45 rfl ?_
  refine g_topi (v := nI ((bc4 Y) / 65536)) (ai_ushr (a := (bc4 Y)) (k := 16) (rfl) (rfl) (by omega) (by omega)) ?_
  refine lv_iadd hx hb dJ17_bitCount_46 ?_
  refine g_topi (v := nI (bc4 Y + ((bc4 Y) / 65536))) (ai_add (a := (bc4 Y)) (b := ((bc4 Y) / 65536)) (rfl) (rfl)) ?_
  refine lv_istore_n hx hb dJ17_bitCount_47 rfl hl (by decide) rfl (fun ls hl => ?_)
  have hl : lv_has ls 1 [(0, .int (nI (bc4 Y + ((bc4 Y) / 65536))))] := hl
  refine lv_iload_n hx hb dJ17_bitCount_48 rfl (lv_at hl 0 rfl) ?_
  refine lv_bipush (v := 63) hx hb dJ17_bitCount_49 (by decide) ?_
  refine lv_iand hx hb dJ17_bitCount_51 ?_
  refine g_topi (v := (nI (bc5 Y))) (ai_and63 (a := bc4 Y + bc4 Y / 65536) rfl (by omega)) ?_
  refine g_iretP hx hb hr hlocks ?_ dJ17_bitCount_52
  rfl
set_option maxHeartbeats 4000000 in
theorem m_nlz (l : Launch) (z : State) (H0 : Heap)  (Y : Nat) (hY : Y < 4294967296) : Met l yJ17_numberOfLeadingZeros (ws_ yJ17_numberOfLeadingZeros cJ17_numberOfLeadingZeros 2 (some .int)) { frames := 0, cells := 0, slots := 0, locals := 0 } (gPc z H0 [.int (nI Y)]) (gPi H0 (fun r => ∃ b, b ≤ 32 ∧ r = nI (32 - b) ∧ isBl Y b)) 0 0 gno := by
  refine g_start (by decide +kernel) (Nat.le_of_ble_eq_true rfl) ?_
  intro p e s m below meth c ls hx hb hr hlocks hml hown hname hts hwm hl
  have hown : s.vm.findClass "java/lang/Integer" = some m.cls := hown
  have hal : z.vm.Alike s.vm := hwm.alike
  have hCF : CallFix p m c cJ17_numberOfLeadingZeros 2 s [.int (nI Y)].toArray lw_all "java/lang/Integer" := ⟨hx, hb, hml, hown, hts⟩
  have hl : lv_has ls 2 [(0, .int (nI Y))] := hl
  refine lv_iload_n hx hb dJ17_numberOfLeadingZeros_0 rfl (lv_at hl 0 rfl) ?_
  refine lv_if_gt (tgt := 15) hx hb dJ17_numberOfLeadingZeros_1 (by decide) (fun c_1 => ?_) (fun c_1 => ?_)
  · skip
    have c_1 := (nI_pos_iff hY).mp c_1
    refine lv_bipush (v := 31) hx hb dJ17_numberOfLeadingZeros_15 (by decide) ?_
    refine lv_istore_n hx hb dJ17_numberOfLeadingZeros_17 rfl hl (by decide) rfl (fun ls hl => ?_)
    have hl : lv_has ls 2 [(1, .int 31), (0, .int (nI Y))] := hl
    refine lv_iload_n hx hb dJ17_numberOfLeadingZeros_18 rfl (lv_at hl 1 rfl) ?_
    refine lv_ldcw (v := 65536) hx hb hown (hts _ q390) dJ17_numberOfLeadingZeros_19 ?_
    refine lv_icmp_lt (tgt := 33) hx hb dJ17_numberOfLeadingZeros_22 (by decide) (fun c_22 => ?_) (fun c_22 => ?_)
    · skip
      have c_22 := (ai_lt (a := Y) (b := 65536) (rfl) (rfl) (by omega) (by omega)).mp c_22
      refine lv_iload_n hx hb dJ17_numberOfLeadingZeros_33 rfl (lv_at hl 1 rfl) ?_
      refine lv_sipush (v := 256) hx hb dJ17_numberOfLeadingZeros_34 (by decide) ?_
      refine lv_icmp_lt (tgt := 48) hx hb dJ17_numberOfLeadingZeros_37 (by decide) (fun c_37 => ?_) (fun c_37 => ?_)
      · skip
        have c_37 := (ai_lt (a := Y) (b := 256) (rfl) (rfl) (by omega) (by omega)).mp c_37
        refine lv_iload_n hx hb dJ17_numberOfLeadingZeros_48 rfl (lv_at hl 1 rfl) ?_
        refine lv_bipush (v := 16) hx hb dJ17_numberOfLeadingZeros_49 (by decide) ?_
        refine lv_icmp_lt (tgt := 61) hx hb dJ17_numberOfLeadingZeros_51 (by decide) (fun c_51 => ?_) (fun c_51 => ?_)
        · skip
          have c_51 := (ai_lt (a := Y) (b := 16) (rfl) (rfl) (by omega) (by omega)).mp c_51
          refine lv_iload_n hx hb dJ17_numberOfLeadingZeros_61 rfl (lv_at hl 1 rfl) ?_
          refine lv_iconst (v := 4) hx hb dJ17_numberOfLeadingZeros_62 (by decide) ?_
          refine lv_icmp_lt (tgt := 73) hx hb dJ17_numberOfLeadingZeros_63 (by decide) (fun c_63 => ?_) (fun c_63 => ?_)
          · skip
            have c_63 := (ai_lt (a := Y) (b := 4) (rfl) (rfl) (by omega) (by omega)).mp c_63
            refine lv_iload_n hx hb dJ17_numberOfLeadingZeros_73 rfl (lv_at hl 0 rfl) ?_
            refine lv_iload_n hx hb dJ17_numberOfLeadingZeros_74 rfl (lv_at hl 1 rfl) ?_
            refine lv_iconst (v := 1) hx hb dJ17_numberOfLeadingZeros_75 (by decide) ?_
            refine lv_iushr hx hb dJ17_numberOfLeadingZeros_76 rfl ?_
            refine g_topi (v := nI (Y / 2)) (ai_ushr (a := Y) (k := 1) (rfl) (rfl) (by omega) (by omega)) ?_
            refine lv_isub hx hb dJ17_numberOfLeadingZeros_77 ?_
            refine g_topi (v := nI (31 - (Y / 2))) (ai_sub (a := 31) (b := (Y / 2)) (rfl) (rfl) (by omega)) ?_
            refine g_iretP hx hb hr hlocks ?_ dJ17_numberOfLeadingZeros_78
            have hi : Y / 2 = 0 ∨ Y / 2 = 1 := by omega
            rcases hi with e1 | e1 <;> rw [e1]
            · exact ⟨1, by decide, rfl, by unfold isBl; omega⟩
            · exact ⟨2, by decide, rfl, by unfold isBl; omega⟩
          · skip
            have c_63 := mt (ai_lt (a := Y) (b := 4) (rfl) (rfl) (by omega) (by omega)).mpr c_63
            refine lv_iinc (k := 0) (v := (nI 29)) hx hb dJ17_numberOfLeadingZeros_66 hl rfl (ai_sbn (a := 31) (b := 2) (rfl) (show Int32.ofInt (-2) = -nI 2 by decide) (by omega)) (by decide) rfl (fun ls hl => ?_)
            have hl : lv_has ls 2 [(1, .int (nI 29)), (0, .int (nI Y))] := hl
            refine lv_iload_n hx hb dJ17_numberOfLeadingZeros_69 rfl (lv_at hl 1 rfl) ?_
            refine lv_iconst (v := 2) hx hb dJ17_numberOfLeadingZeros_70 (by decide) ?_
            refine lv_iushr hx hb dJ17_numberOfLeadingZeros_71 rfl ?_
            refine g_topi (v := nI (Y / 4)) (ai_ushr (a := Y) (k := 2) (rfl) (rfl) (by omega) (by omega)) ?_
            refine lv_istore_n hx hb dJ17_numberOfLeadingZeros_72 rfl hl (by decide) rfl (fun ls hl => ?_)
            have hl : lv_has ls 2 [(0, .int (nI (Y / 4))), (1, .int (nI 29))] := hl
            refine lv_iload_n hx hb dJ17_numberOfLeadingZeros_73 rfl (lv_at hl 1 rfl) ?_
            refine lv_iload_n hx hb dJ17_numberOfLeadingZeros_74 rfl (lv_at hl 0 rfl) ?_
            refine lv_iconst (v := 1) hx hb dJ17_numberOfLeadingZeros_75 (by decide) ?_
            refine lv_iushr hx hb dJ17_numberOfLeadingZeros_76 rfl ?_
            refine g_topi (v := nI ((Y / 4) / 2)) (ai_ushr (a := (Y / 4)) (k := 1) (rfl) (rfl) (by omega) (by omega)) ?_
            refine lv_isub hx hb dJ17_numberOfLeadingZeros_77 ?_
            refine g_topi (v := nI (29 - ((Y / 4) / 2))) (ai_sub (a := 29) (b := ((Y / 4) / 2)) (rfl) (rfl) (by omega)) ?_
            refine g_iretP hx hb hr hlocks ?_ dJ17_numberOfLeadingZeros_78
            have hi : (Y / 4) / 2 = 0 ∨ (Y / 4) / 2 = 1 := by omega
            rcases hi with e1 | e1 <;> rw [e1]
            · exact ⟨3, by decide, rfl, by unfold isBl; omega⟩
            · exact ⟨4, by decide, rfl, by unfold isBl; omega⟩
        · skip
          have c_51 := mt (ai_lt (a := Y) (b := 16) (rfl) (rfl) (by omega) (by omega)).mpr c_51
          refine lv_iinc (k := 0) (v := (nI 27)) hx hb dJ17_numberOfLeadingZeros_54 hl rfl (ai_sbn (a := 31) (b := 4) (rfl) (show Int32.ofInt (-4) = -nI 4 by decide) (by omega)) (by decide) rfl (fun ls hl => ?_)
          have hl : lv_has ls 2 [(1, .int (nI 27)), (0, .int (nI Y))] := hl
          refine lv_iload_n hx hb dJ17_numberOfLeadingZeros_57 rfl (lv_at hl 1 rfl) ?_
          refine lv_iconst (v := 4) hx hb dJ17_numberOfLeadingZeros_58 (by decide) ?_
          refine lv_iushr hx hb dJ17_numberOfLeadingZeros_59 rfl ?_
          refine g_topi (v := nI (Y / 16)) (ai_ushr (a := Y) (k := 4) (rfl) (rfl) (by omega) (by omega)) ?_
          refine lv_istore_n hx hb dJ17_numberOfLeadingZeros_60 rfl hl (by decide) rfl (fun ls hl => ?_)
          have hl : lv_has ls 2 [(0, .int (nI (Y / 16))), (1, .int (nI 27))] := hl
          refine lv_iload_n hx hb dJ17_numberOfLeadingZeros_61 rfl (lv_at hl 0 rfl) ?_
          refine lv_iconst (v := 4) hx hb dJ17_numberOfLeadingZeros_62 (by decide) ?_
          refine lv_icmp_lt (tgt := 73) hx hb dJ17_numberOfLeadingZeros_63 (by decide) (fun c_63 => ?_) (fun c_63 => ?_)
          · skip
            have c_63 := (ai_lt (a := (Y / 16)) (b := 4) (rfl) (rfl) (by omega) (by omega)).mp c_63
            refine lv_iload_n hx hb dJ17_numberOfLeadingZeros_73 rfl (lv_at hl 1 rfl) ?_
            refine lv_iload_n hx hb dJ17_numberOfLeadingZeros_74 rfl (lv_at hl 0 rfl) ?_
            refine lv_iconst (v := 1) hx hb dJ17_numberOfLeadingZeros_75 (by decide) ?_
            refine lv_iushr hx hb dJ17_numberOfLeadingZeros_76 rfl ?_
            refine g_topi (v := nI ((Y / 16) / 2)) (ai_ushr (a := (Y / 16)) (k := 1) (rfl) (rfl) (by omega) (by omega)) ?_
            refine lv_isub hx hb dJ17_numberOfLeadingZeros_77 ?_
            refine g_topi (v := nI (27 - ((Y / 16) / 2))) (ai_sub (a := 27) (b := ((Y / 16) / 2)) (rfl) (rfl) (by omega)) ?_
            refine g_iretP hx hb hr hlocks ?_ dJ17_numberOfLeadingZeros_78
            have hi : (Y / 16) / 2 = 0 ∨ (Y / 16) / 2 = 1 := by omega
            rcases hi with e1 | e1 <;> rw [e1]
            · exact ⟨5, by decide, rfl, by unfold isBl; omega⟩
            · exact ⟨6, by decide, rfl, by unfold isBl; omega⟩
          · skip
            have c_63 := mt (ai_lt (a := (Y / 16)) (b := 4) (rfl) (rfl) (by omega) (by omega)).mpr c_63
            refine lv_iinc (k := 1) (v := (nI 25)) hx hb dJ17_numberOfLeadingZeros_66 hl rfl (ai_sbn (a := 27) (b := 2) (rfl) (show Int32.ofInt (-2) = -nI 2 by decide) (by omega)) (by decide) rfl (fun ls hl => ?_)
            have hl : lv_has ls 2 [(1, .int (nI 25)), (0, .int (nI (Y / 16)))] := hl
            refine lv_iload_n hx hb dJ17_numberOfLeadingZeros_69 rfl (lv_at hl 1 rfl) ?_
            refine lv_iconst (v := 2) hx hb dJ17_numberOfLeadingZeros_70 (by decide) ?_
            refine lv_iushr hx hb dJ17_numberOfLeadingZeros_71 rfl ?_
            refine g_topi (v := nI ((Y / 16) / 4)) (ai_ushr (a := (Y / 16)) (k := 2) (rfl) (rfl) (by omega) (by omega)) ?_
            refine lv_istore_n hx hb dJ17_numberOfLeadingZeros_72 rfl hl (by decide) rfl (fun ls hl => ?_)
            have hl : lv_has ls 2 [(0, .int (nI ((Y / 16) / 4))), (1, .int (nI 25))] := hl
            refine lv_iload_n hx hb dJ17_numberOfLeadingZeros_73 rfl (lv_at hl 1 rfl) ?_
            refine lv_iload_n hx hb dJ17_numberOfLeadingZeros_74 rfl (lv_at hl 0 rfl) ?_
            refine lv_iconst (v := 1) hx hb dJ17_numberOfLeadingZeros_75 (by decide) ?_
            refine lv_iushr hx hb dJ17_numberOfLeadingZeros_76 rfl ?_
            refine g_topi (v := nI (((Y / 16) / 4) / 2)) (ai_ushr (a := ((Y / 16) / 4)) (k := 1) (rfl) (rfl) (by omega) (by omega)) ?_
            refine lv_isub hx hb dJ17_numberOfLeadingZeros_77 ?_
            refine g_topi (v := nI (25 - (((Y / 16) / 4) / 2))) (ai_sub (a := 25) (b := (((Y / 16) / 4) / 2)) (rfl) (rfl) (by omega)) ?_
            refine g_iretP hx hb hr hlocks ?_ dJ17_numberOfLeadingZeros_78
            have hi : ((Y / 16) / 4) / 2 = 0 ∨ ((Y / 16) / 4) / 2 = 1 := by omega
            rcases hi with e1 | e1 <;> rw [e1]
            · exact ⟨7, by decide, rfl, by unfold isBl; omega⟩
            · exact ⟨8, by decide, rfl, by unfold isBl; omega⟩
      · skip
        have c_37 := mt (ai_lt (a := Y) (b := 256) (rfl) (rfl) (by omega) (by omega)).mpr c_37
        refine lv_iinc (k := 0) (v := (nI 23)) hx hb dJ17_numberOfLeadingZeros_40 hl rfl (ai_sbn (a := 31) (b := 8) (rfl) (show Int32.ofInt (-8) = -nI 8 by decide) (by omega)) (by decide) rfl (fun ls hl => ?_)
        have hl : lv_has ls 2 [(1, .int (nI 23)), (0, .int (nI Y))] := hl
        refine lv_iload_n hx hb dJ17_numberOfLeadingZeros_43 rfl (lv_at hl 1 rfl) ?_
        refine lv_bipush (v := 8) hx hb dJ17_numberOfLeadingZeros_44 (by decide) ?_
        refine lv_iushr hx hb dJ17_numberOfLeadingZeros_46 rfl ?_
        refine g_topi (v := nI (Y / 256)) (ai_ushr (a := Y) (k := 8) (rfl) (rfl) (by omega) (by omega)) ?_
        refine lv_istore_n hx hb dJ17_numberOfLeadingZeros_47 rfl hl (by decide) rfl (fun ls hl => ?_)
        have hl : lv_has ls 2 [(0, .int (nI (Y / 256))), (1, .int (nI 23))] := hl
        refine lv_iload_n hx hb dJ17_numberOfLeadingZeros_48 rfl (lv_at hl 0 rfl) ?_
        refine lv_bipush (v := 16) hx hb dJ17_numberOfLeadingZeros_49 (by decide) ?_
        refine lv_icmp_lt (tgt := 61) hx hb dJ17_numberOfLeadingZeros_51 (by decide) (fun c_51 => ?_) (fun c_51 => ?_)
        · skip
          have c_51 := (ai_lt (a := (Y / 256)) (b := 16) (rfl) (rfl) (by omega) (by omega)).mp c_51
          refine lv_iload_n hx hb dJ17_numberOfLeadingZeros_61 rfl (lv_at hl 0 rfl) ?_
          refine lv_iconst (v := 4) hx hb dJ17_numberOfLeadingZeros_62 (by decide) ?_
          refine lv_icmp_lt (tgt := 73) hx hb dJ17_numberOfLeadingZeros_63 (by decide) (fun c_63 => ?_) (fun c_63 => ?_)
          · skip
            have c_63 := (ai_lt (a := (Y / 256)) (b := 4) (rfl) (rfl) (by omega) (by omega)).mp c_63
            refine lv_iload_n hx hb dJ17_numberOfLeadingZeros_73 rfl (lv_at hl 1 rfl) ?_
            refine lv_iload_n hx hb dJ17_numberOfLeadingZeros_74 rfl (lv_at hl 0 rfl) ?_
            refine lv_iconst (v := 1) hx hb dJ17_numberOfLeadingZeros_75 (by decide) ?_
            refine lv_iushr hx hb dJ17_numberOfLeadingZeros_76 rfl ?_
            refine g_topi (v := nI ((Y / 256) / 2)) (ai_ushr (a := (Y / 256)) (k := 1) (rfl) (rfl) (by omega) (by omega)) ?_
            refine lv_isub hx hb dJ17_numberOfLeadingZeros_77 ?_
            refine g_topi (v := nI (23 - ((Y / 256) / 2))) (ai_sub (a := 23) (b := ((Y / 256) / 2)) (rfl) (rfl) (by omega)) ?_
            refine g_iretP hx hb hr hlocks ?_ dJ17_numberOfLeadingZeros_78
            have hi : (Y / 256) / 2 = 0 ∨ (Y / 256) / 2 = 1 := by omega
            rcases hi with e1 | e1 <;> rw [e1]
            · exact ⟨9, by decide, rfl, by unfold isBl; omega⟩
            · exact ⟨10, by decide, rfl, by unfold isBl; omega⟩
          · skip
            have c_63 := mt (ai_lt (a := (Y / 256)) (b := 4) (rfl) (rfl) (by omega) (by omega)).mpr c_63
            refine lv_iinc (k := 1) (v := (nI 21)) hx hb dJ17_numberOfLeadingZeros_66 hl rfl (ai_sbn (a := 23) (b := 2) (rfl) (show Int32.ofInt (-2) = -nI 2 by decide) (by omega)) (by decide) rfl (fun ls hl => ?_)
            have hl : lv_has ls 2 [(1, .int (nI 21)), (0, .int (nI (Y / 256)))] := hl
            refine lv_iload_n hx hb dJ17_numberOfLeadingZeros_69 rfl (lv_at hl 1 rfl) ?_
            refine lv_iconst (v := 2) hx hb dJ17_numberOfLeadingZeros_70 (by decide) ?_
            refine lv_iushr hx hb dJ17_numberOfLeadingZeros_71 rfl ?_
            refine g_topi (v := nI ((Y / 256) / 4)) (ai_ushr (a := (Y / 256)) (k := 2) (rfl) (rfl) (by omega) (by omega)) ?_
            refine lv_istore_n hx hb dJ17_numberOfLeadingZeros_72 rfl hl (by decide) rfl (fun ls hl => ?_)
            have hl : lv_has ls 2 [(0, .int (nI ((Y / 256) / 4))), (1, .int (nI 21))] := hl
            refine lv_iload_n hx hb dJ17_numberOfLeadingZeros_73 rfl (lv_at hl 1 rfl) ?_
            refine lv_iload_n hx hb dJ17_numberOfLeadingZeros_74 rfl (lv_at hl 0 rfl) ?_
            refine lv_iconst (v := 1) hx hb dJ17_numberOfLeadingZeros_75 (by decide) ?_
            refine lv_iushr hx hb dJ17_numberOfLeadingZeros_76 rfl ?_
            refine g_topi (v := nI (((Y / 256) / 4) / 2)) (ai_ushr (a := ((Y / 256) / 4)) (k := 1) (rfl) (rfl) (by omega) (by omega)) ?_
            refine lv_isub hx hb dJ17_numberOfLeadingZeros_77 ?_
            refine g_topi (v := nI (21 - (((Y / 256) / 4) / 2))) (ai_sub (a := 21) (b := (((Y / 256) / 4) / 2)) (rfl) (rfl) (by omega)) ?_
            refine g_iretP hx hb hr hlocks ?_ dJ17_numberOfLeadingZeros_78
            have hi : ((Y / 256) / 4) / 2 = 0 ∨ ((Y / 256) / 4) / 2 = 1 := by omega
            rcases hi with e1 | e1 <;> rw [e1]
            · exact ⟨11, by decide, rfl, by unfold isBl; omega⟩
            · exact ⟨12, by decide, rfl, by unfold isBl; omega⟩
        · skip
          have c_51 := mt (ai_lt (a := (Y / 256)) (b := 16) (rfl) (rfl) (by omega) (by omega)).mpr c_51
          refine lv_iinc (k := 1) (v := (nI 19)) hx hb dJ17_numberOfLeadingZeros_54 hl rfl (ai_sbn (a := 23) (b := 4) (rfl) (show Int32.ofInt (-4) = -nI 4 by decide) (by omega)) (by decide) rfl (fun ls hl => ?_)
          have hl : lv_has ls 2 [(1, .int (nI 19)), (0, .int (nI (Y / 256)))] := hl
          refine lv_iload_n hx hb dJ17_numberOfLeadingZeros_57 rfl (lv_at hl 1 rfl) ?_
          refine lv_iconst (v := 4) hx hb dJ17_numberOfLeadingZeros_58 (by decide) ?_
          refine lv_iushr hx hb dJ17_numberOfLeadingZeros_59 rfl ?_
          refine g_topi (v := nI ((Y / 256) / 16)) (ai_ushr (a := (Y / 256)) (k := 4) (rfl) (rfl) (by omega) (by omega)) ?_
          refine lv_istore_n hx hb dJ17_numberOfLeadingZeros_60 rfl hl (by decide) rfl (fun ls hl => ?_)
          have hl : lv_has ls 2 [(0, .int (nI ((Y / 256) / 16))), (1, .int (nI 19))] := hl
          refine lv_iload_n hx hb dJ17_numberOfLeadingZeros_61 rfl (lv_at hl 0 rfl) ?_
          refine lv_iconst (v := 4) hx hb dJ17_numberOfLeadingZeros_62 (by decide) ?_
          refine lv_icmp_lt (tgt := 73) hx hb dJ17_numberOfLeadingZeros_63 (by decide) (fun c_63 => ?_) (fun c_63 => ?_)
          · skip
            have c_63 := (ai_lt (a := ((Y / 256) / 16)) (b := 4) (rfl) (rfl) (by omega) (by omega)).mp c_63
            refine lv_iload_n hx hb dJ17_numberOfLeadingZeros_73 rfl (lv_at hl 1 rfl) ?_
            refine lv_iload_n hx hb dJ17_numberOfLeadingZeros_74 rfl (lv_at hl 0 rfl) ?_
            refine lv_iconst (v := 1) hx hb dJ17_numberOfLeadingZeros_75 (by decide) ?_
            refine lv_iushr hx hb dJ17_numberOfLeadingZeros_76 rfl ?_
            refine g_topi (v := nI (((Y / 256) / 16) / 2)) (ai_ushr (a := ((Y / 256) / 16)) (k := 1) (rfl) (rfl) (by omega) (by omega)) ?_
            refine lv_isub hx hb dJ17_numberOfLeadingZeros_77 ?_
            refine g_topi (v := nI (19 - (((Y / 256) / 16) / 2))) (ai_sub (a := 19) (b := (((Y / 256) / 16) / 2)) (rfl) (rfl) (by omega)) ?_
            refine g_iretP hx hb hr hlocks ?_ dJ17_numberOfLeadingZeros_78
            have hi : ((Y / 256) / 16) / 2 = 0 ∨ ((Y / 256) / 16) / 2 = 1 := by omega
            rcases hi with e1 | e1 <;> rw [e1]
            · exact ⟨13, by decide, rfl, by unfold isBl; omega⟩
            · exact ⟨14, by decide, rfl, by unfold isBl; omega⟩
          · skip
            have c_63 := mt (ai_lt (a := ((Y / 256) / 16)) (b := 4) (rfl) (rfl) (by omega) (by omega)).mpr c_63
            refine lv_iinc (k := 1) (v := (nI 17)) hx hb dJ17_numberOfLeadingZeros_66 hl rfl (ai_sbn (a := 19) (b := 2) (rfl) (show Int32.ofInt (-2) = -nI 2 by decide) (by omega)) (by decide) rfl (fun ls hl => ?_)
            have hl : lv_has ls 2 [(1, .int (nI 17)), (0, .int (nI ((Y / 256) / 16)))] := hl
            refine lv_iload_n hx hb dJ17_numberOfLeadingZeros_69 rfl (lv_at hl 1 rfl) ?_
            refine lv_iconst (v := 2) hx hb dJ17_numberOfLeadingZeros_70 (by decide) ?_
            refine lv_iushr hx hb dJ17_numberOfLeadingZeros_71 rfl ?_
            refine g_topi (v := nI (((Y / 256) / 16) / 4)) (ai_ushr (a := ((Y / 256) / 16)) (k := 2) (rfl) (rfl) (by omega) (by omega)) ?_
            refine lv_istore_n hx hb dJ17_numberOfLeadingZeros_72 rfl hl (by decide) rfl (fun ls hl => ?_)
            have hl : lv_has ls 2 [(0, .int (nI (((Y / 256) / 16) / 4))), (1, .int (nI 17))] := hl
            refine lv_iload_n hx hb dJ17_numberOfLeadingZeros_73 rfl (lv_at hl 1 rfl) ?_
            refine lv_iload_n hx hb dJ17_numberOfLeadingZeros_74 rfl (lv_at hl 0 rfl) ?_
            refine lv_iconst (v := 1) hx hb dJ17_numberOfLeadingZeros_75 (by decide) ?_
            refine lv_iushr hx hb dJ17_numberOfLeadingZeros_76 rfl ?_
            refine g_topi (v := nI ((((Y / 256) / 16) / 4) / 2)) (ai_ushr (a := (((Y / 256) / 16) / 4)) (k := 1) (rfl) (rfl) (by omega) (by omega)) ?_
            refine lv_isub hx hb dJ17_numberOfLeadingZeros_77 ?_
            refine g_topi (v := nI (17 - ((((Y / 256) / 16) / 4) / 2))) (ai_sub (a := 17) (b := ((((Y / 256) / 16) / 4) / 2)) (rfl) (rfl) (by omega)) ?_
            refine g_iretP hx hb hr hlocks ?_ dJ17_numberOfLeadingZeros_78
            have hi : (((Y / 256) / 16) / 4) / 2 = 0 ∨ (((Y / 256) / 16) / 4) / 2 = 1 := by omega
            rcases hi with e1 | e1 <;> rw [e1]
            · exact ⟨15, by decide, rfl, by unfold isBl; omega⟩
            · exact ⟨16, by decide, rfl, by unfold isBl; omega⟩
    · skip
      have c_22 := mt (ai_lt (a := Y) (b := 65536) (rfl) (rfl) (by omega) (by omega)).mpr c_22
      refine lv_iinc (k := 0) (v := (nI 15)) hx hb dJ17_numberOfLeadingZeros_25 hl rfl (ai_sbn (a := 31) (b := 16) (rfl) (show Int32.ofInt (-16) = -nI 16 by decide) (by omega)) (by decide) rfl (fun ls hl => ?_)
      have hl : lv_has ls 2 [(1, .int (nI 15)), (0, .int (nI Y))] := hl
      refine lv_iload_n hx hb dJ17_numberOfLeadingZeros_28 rfl (lv_at hl 1 rfl) ?_
      refine lv_bipush (v := 16) hx hb dJ17_numberOfLeadingZeros_29 (by decide) ?_
      refine lv_iushr hx hb dJ17_numberOfLeadingZeros_31 rfl ?_
      refine g_topi (v := nI (Y / 65536)) (ai_ushr (a := Y) (k := 16) (rfl) (rfl) (by omega) (by omega)) ?_
      refine lv_istore_n hx hb dJ17_numberOfLeadingZeros_32 rfl hl (by decide) rfl (fun ls hl => ?_)
      have hl : lv_has ls 2 [(0, .int (nI (Y / 65536))), (1, .int (nI 15))] := hl
      refine lv_iload_n hx hb dJ17_numberOfLeadingZeros_33 rfl (lv_at hl 0 rfl) ?_
      refine lv_sipush (v := 256) hx hb dJ17_numberOfLeadingZeros_34 (by decide) ?_
      refine lv_icmp_lt (tgt := 48) hx hb dJ17_numberOfLeadingZeros_37 (by decide) (fun c_37 => ?_) (fun c_37 => ?_)
      · skip
        have c_37 := (ai_lt (a := (Y / 65536)) (b := 256) (rfl) (rfl) (by omega) (by omega)).mp c_37
        refine lv_iload_n hx hb dJ17_numberOfLeadingZeros_48 rfl (lv_at hl 0 rfl) ?_
        refine lv_bipush (v := 16) hx hb dJ17_numberOfLeadingZeros_49 (by decide) ?_
        refine lv_icmp_lt (tgt := 61) hx hb dJ17_numberOfLeadingZeros_51 (by decide) (fun c_51 => ?_) (fun c_51 => ?_)
        · skip
          have c_51 := (ai_lt (a := (Y / 65536)) (b := 16) (rfl) (rfl) (by omega) (by omega)).mp c_51
          refine lv_iload_n hx hb dJ17_numberOfLeadingZeros_61 rfl (lv_at hl 0 rfl) ?_
          refine lv_iconst (v := 4) hx hb dJ17_numberOfLeadingZeros_62 (by decide) ?_
          refine lv_icmp_lt (tgt := 73) hx hb dJ17_numberOfLeadingZeros_63 (by decide) (fun c_63 => ?_) (fun c_63 => ?_)
          · skip
            have c_63 := (ai_lt (a := (Y / 65536)) (b := 4) (rfl) (rfl) (by omega) (by omega)).mp c_63
            refine lv_iload_n hx hb dJ17_numberOfLeadingZeros_73 rfl (lv_at hl 1 rfl) ?_
            refine lv_iload_n hx hb dJ17_numberOfLeadingZeros_74 rfl (lv_at hl 0 rfl) ?_
            refine lv_iconst (v := 1) hx hb dJ17_numberOfLeadingZeros_75 (by decide) ?_
            refine lv_iushr hx hb dJ17_numberOfLeadingZeros_76 rfl ?_
            refine g_topi (v := nI ((Y / 65536) / 2)) (ai_ushr (a := (Y / 65536)) (k := 1) (rfl) (rfl) (by omega) (by omega)) ?_
            refine lv_isub hx hb dJ17_numberOfLeadingZeros_77 ?_
            refine g_topi (v := nI (15 - ((Y / 65536) / 2))) (ai_sub (a := 15) (b := ((Y / 65536) / 2)) (rfl) (rfl) (by omega)) ?_
            refine g_iretP hx hb hr hlocks ?_ dJ17_numberOfLeadingZeros_78
            have hi : (Y / 65536) / 2 = 0 ∨ (Y / 65536) / 2 = 1 := by omega
            rcases hi with e1 | e1 <;> rw [e1]
            · exact ⟨17, by decide, rfl, by unfold isBl; omega⟩
            · exact ⟨18, by decide, rfl, by unfold isBl; omega⟩
          · skip
            have c_63 := mt (ai_lt (a := (Y / 65536)) (b := 4) (rfl) (rfl) (by omega) (by omega)).mpr c_63
            refine lv_iinc (k := 1) (v := (nI 13)) hx hb dJ17_numberOfLeadingZeros_66 hl rfl (ai_sbn (a := 15) (b := 2) (rfl) (show Int32.ofInt (-2) = -nI 2 by decide) (by omega)) (by decide) rfl (fun ls hl => ?_)
            have hl : lv_has ls 2 [(1, .int (nI 13)), (0, .int (nI (Y / 65536)))] := hl
            refine lv_iload_n hx hb dJ17_numberOfLeadingZeros_69 rfl (lv_at hl 1 rfl) ?_
            refine lv_iconst (v := 2) hx hb dJ17_numberOfLeadingZeros_70 (by decide) ?_
            refine lv_iushr hx hb dJ17_numberOfLeadingZeros_71 rfl ?_
            refine g_topi (v := nI ((Y / 65536) / 4)) (ai_ushr (a := (Y / 65536)) (k := 2) (rfl) (rfl) (by omega) (by omega)) ?_
            refine lv_istore_n hx hb dJ17_numberOfLeadingZeros_72 rfl hl (by decide) rfl (fun ls hl => ?_)
            have hl : lv_has ls 2 [(0, .int (nI ((Y / 65536) / 4))), (1, .int (nI 13))] := hl
            refine lv_iload_n hx hb dJ17_numberOfLeadingZeros_73 rfl (lv_at hl 1 rfl) ?_
            refine lv_iload_n hx hb dJ17_numberOfLeadingZeros_74 rfl (lv_at hl 0 rfl) ?_
            refine lv_iconst (v := 1) hx hb dJ17_numberOfLeadingZeros_75 (by decide) ?_
            refine lv_iushr hx hb dJ17_numberOfLeadingZeros_76 rfl ?_
            refine g_topi (v := nI (((Y / 65536) / 4) / 2)) (ai_ushr (a := ((Y / 65536) / 4)) (k := 1) (rfl) (rfl) (by omega) (by omega)) ?_
            refine lv_isub hx hb dJ17_numberOfLeadingZeros_77 ?_
            refine g_topi (v := nI (13 - (((Y / 65536) / 4) / 2))) (ai_sub (a := 13) (b := (((Y / 65536) / 4) / 2)) (rfl) (rfl) (by omega)) ?_
            refine g_iretP hx hb hr hlocks ?_ dJ17_numberOfLeadingZeros_78
            have hi : ((Y / 65536) / 4) / 2 = 0 ∨ ((Y / 65536) / 4) / 2 = 1 := by omega
            rcases hi with e1 | e1 <;> rw [e1]
            · exact ⟨19, by decide, rfl, by unfold isBl; omega⟩
            · exact ⟨20, by decide, rfl, by unfold isBl; omega⟩
        · skip
          have c_51 := mt (ai_lt (a := (Y / 65536)) (b := 16) (rfl) (rfl) (by omega) (by omega)).mpr c_51
          refine lv_iinc (k := 1) (v := (nI 11)) hx hb dJ17_numberOfLeadingZeros_54 hl rfl (ai_sbn (a := 15) (b := 4) (rfl) (show Int32.ofInt (-4) = -nI 4 by decide) (by omega)) (by decide) rfl (fun ls hl => ?_)
          have hl : lv_has ls 2 [(1, .int (nI 11)), (0, .int (nI (Y / 65536)))] := hl
          refine lv_iload_n hx hb dJ17_numberOfLeadingZeros_57 rfl (lv_at hl 1 rfl) ?_
          refine lv_iconst (v := 4) hx hb dJ17_numberOfLeadingZeros_58 (by decide) ?_
          refine lv_iushr hx hb dJ17_numberOfLeadingZeros_59 rfl ?_
          refine g_topi (v := nI ((Y / 65536) / 16)) (ai_ushr (a := (Y / 65536)) (k := 4) (rfl) (rfl) (by omega) (by omega)) ?_
          refine lv_istore_n hx hb dJ17_numberOfLeadingZeros_60 rfl hl (by decide) rfl (fun ls hl => ?_)
          have hl : lv_has ls 2 [(0, .int (nI ((Y / 65536) / 16))), (1, .int (nI 11))] := hl
          refine lv_iload_n hx hb dJ17_numberOfLeadingZeros_61 rfl (lv_at hl 0 rfl) ?_
          refine lv_iconst (v := 4) hx hb dJ17_numberOfLeadingZeros_62 (by decide) ?_
          refine lv_icmp_lt (tgt := 73) hx hb dJ17_numberOfLeadingZeros_63 (by decide) (fun c_63 => ?_) (fun c_63 => ?_)
          · skip
            have c_63 := (ai_lt (a := ((Y / 65536) / 16)) (b := 4) (rfl) (rfl) (by omega) (by omega)).mp c_63
            refine lv_iload_n hx hb dJ17_numberOfLeadingZeros_73 rfl (lv_at hl 1 rfl) ?_
            refine lv_iload_n hx hb dJ17_numberOfLeadingZeros_74 rfl (lv_at hl 0 rfl) ?_
            refine lv_iconst (v := 1) hx hb dJ17_numberOfLeadingZeros_75 (by decide) ?_
            refine lv_iushr hx hb dJ17_numberOfLeadingZeros_76 rfl ?_
            refine g_topi (v := nI (((Y / 65536) / 16) / 2)) (ai_ushr (a := ((Y / 65536) / 16)) (k := 1) (rfl) (rfl) (by omega) (by omega)) ?_
            refine lv_isub hx hb dJ17_numberOfLeadingZeros_77 ?_
            refine g_topi (v := nI (11 - (((Y / 65536) / 16) / 2))) (ai_sub (a := 11) (b := (((Y / 65536) / 16) / 2)) (rfl) (rfl) (by omega)) ?_
            refine g_iretP hx hb hr hlocks ?_ dJ17_numberOfLeadingZeros_78
            have hi : ((Y / 65536) / 16) / 2 = 0 ∨ ((Y / 65536) / 16) / 2 = 1 := by omega
            rcases hi with e1 | e1 <;> rw [e1]
            · exact ⟨21, by decide, rfl, by unfold isBl; omega⟩
            · exact ⟨22, by decide, rfl, by unfold isBl; omega⟩
          · skip
            have c_63 := mt (ai_lt (a := ((Y / 65536) / 16)) (b := 4) (rfl) (rfl) (by omega) (by omega)).mpr c_63
            refine lv_iinc (k := 1) (v := (nI 9)) hx hb dJ17_numberOfLeadingZeros_66 hl rfl (ai_sbn (a := 11) (b := 2) (rfl) (show Int32.ofInt (-2) = -nI 2 by decide) (by omega)) (by decide) rfl (fun ls hl => ?_)
            have hl : lv_has ls 2 [(1, .int (nI 9)), (0, .int (nI ((Y / 65536) / 16)))] := hl
            refine lv_iload_n hx hb dJ17_numberOfLeadingZeros_69 rfl (lv_at hl 1 rfl) ?_
            refine lv_iconst (v := 2) hx hb dJ17_numberOfLeadingZeros_70 (by decide) ?_
            refine lv_iushr hx hb dJ17_numberOfLeadingZeros_71 rfl ?_
            refine g_topi (v := nI (((Y / 65536) / 16) / 4)) (ai_ushr (a := ((Y / 65536) / 16)) (k := 2) (rfl) (rfl) (by omega) (by omega)) ?_
            refine lv_istore_n hx hb dJ17_numberOfLeadingZeros_72 rfl hl (by decide) rfl (fun ls hl => ?_)
            have hl : lv_has ls 2 [(0, .int (nI (((Y / 65536) / 16) / 4))), (1, .int (nI 9))] := hl
            refine lv_iload_n hx hb dJ17_numberOfLeadingZeros_73 rfl (lv_at hl 1 rfl) ?_
            refine lv_iload_n hx hb dJ17_numberOfLeadingZeros_74 rfl (lv_at hl 0 rfl) ?_
            refine lv_iconst (v := 1) hx hb dJ17_numberOfLeadingZeros_75 (by decide) ?_
            refine lv_iushr hx hb dJ17_numberOfLeadingZeros_76 rfl ?_
            refine g_topi (v := nI ((((Y / 65536) / 16) / 4) / 2)) (ai_ushr (a := (((Y / 65536) / 16) / 4)) (k := 1) (rfl) (rfl) (by omega) (by omega)) ?_
            refine lv_isub hx hb dJ17_numberOfLeadingZeros_77 ?_
            refine g_topi (v := nI (9 - ((((Y / 65536) / 16) / 4) / 2))) (ai_sub (a := 9) (b := ((((Y / 65536) / 16) / 4) / 2)) (rfl) (rfl) (by omega)) ?_
            refine g_iretP hx hb hr hlocks ?_ dJ17_numberOfLeadingZeros_78
            have hi : (((Y / 65536) / 16) / 4) / 2 = 0 ∨ (((Y / 65536) / 16) / 4) / 2 = 1 := by omega
            rcases hi with e1 | e1 <;> rw [e1]
            · exact ⟨23, by decide, rfl, by unfold isBl; omega⟩
            · exact ⟨24, by decide, rfl, by unfold isBl; omega⟩
      · skip
        have c_37 := mt (ai_lt (a := (Y / 65536)) (b := 256) (rfl) (rfl) (by omega) (by omega)).mpr c_37
        refine lv_iinc (k := 1) (v := (nI 7)) hx hb dJ17_numberOfLeadingZeros_40 hl rfl (ai_sbn (a := 15) (b := 8) (rfl) (show Int32.ofInt (-8) = -nI 8 by decide) (by omega)) (by decide) rfl (fun ls hl => ?_)
        have hl : lv_has ls 2 [(1, .int (nI 7)), (0, .int (nI (Y / 65536)))] := hl
        refine lv_iload_n hx hb dJ17_numberOfLeadingZeros_43 rfl (lv_at hl 1 rfl) ?_
        refine lv_bipush (v := 8) hx hb dJ17_numberOfLeadingZeros_44 (by decide) ?_
        refine lv_iushr hx hb dJ17_numberOfLeadingZeros_46 rfl ?_
        refine g_topi (v := nI ((Y / 65536) / 256)) (ai_ushr (a := (Y / 65536)) (k := 8) (rfl) (rfl) (by omega) (by omega)) ?_
        refine lv_istore_n hx hb dJ17_numberOfLeadingZeros_47 rfl hl (by decide) rfl (fun ls hl => ?_)
        have hl : lv_has ls 2 [(0, .int (nI ((Y / 65536) / 256))), (1, .int (nI 7))] := hl
        refine lv_iload_n hx hb dJ17_numberOfLeadingZeros_48 rfl (lv_at hl 0 rfl) ?_
        refine lv_bipush (v := 16) hx hb dJ17_numberOfLeadingZeros_49 (by decide) ?_
        refine lv_icmp_lt (tgt := 61) hx hb dJ17_numberOfLeadingZeros_51 (by decide) (fun c_51 => ?_) (fun c_51 => ?_)
        · skip
          have c_51 := (ai_lt (a := ((Y / 65536) / 256)) (b := 16) (rfl) (rfl) (by omega) (by omega)).mp c_51
          refine lv_iload_n hx hb dJ17_numberOfLeadingZeros_61 rfl (lv_at hl 0 rfl) ?_
          refine lv_iconst (v := 4) hx hb dJ17_numberOfLeadingZeros_62 (by decide) ?_
          refine lv_icmp_lt (tgt := 73) hx hb dJ17_numberOfLeadingZeros_63 (by decide) (fun c_63 => ?_) (fun c_63 => ?_)
          · skip
            have c_63 := (ai_lt (a := ((Y / 65536) / 256)) (b := 4) (rfl) (rfl) (by omega) (by omega)).mp c_63
            refine lv_iload_n hx hb dJ17_numberOfLeadingZeros_73 rfl (lv_at hl 1 rfl) ?_
            refine lv_iload_n hx hb dJ17_numberOfLeadingZeros_74 rfl (lv_at hl 0 rfl) ?_
            refine lv_iconst (v := 1) hx hb dJ17_numberOfLeadingZeros_75 (by decide) ?_
            refine lv_iushr hx hb dJ17_numberOfLeadingZeros_76 rfl ?_
            refine g_topi (v := nI (((Y / 65536) / 256) / 2)) (ai_ushr (a := ((Y / 65536) / 256)) (k := 1) (rfl) (rfl) (by omega) (by omega)) ?_
            refine lv_isub hx hb dJ17_numberOfLeadingZeros_77 ?_
            refine g_topi (v := nI (7 - (((Y / 65536) / 256) / 2))) (ai_sub (a := 7) (b := (((Y / 65536) / 256) / 2)) (rfl) (rfl) (by omega)) ?_
            refine g_iretP hx hb hr hlocks ?_ dJ17_numberOfLeadingZeros_78
            have hi : ((Y / 65536) / 256) / 2 = 0 ∨ ((Y / 65536) / 256) / 2 = 1 := by omega
            rcases hi with e1 | e1 <;> rw [e1]
            · exact ⟨25, by decide, rfl, by unfold isBl; omega⟩
            · exact ⟨26, by decide, rfl, by unfold isBl; omega⟩
          · skip
            have c_63 := mt (ai_lt (a := ((Y / 65536) / 256)) (b := 4) (rfl) (rfl) (by omega) (by omega)).mpr c_63
            refine lv_iinc (k := 1) (v := (nI 5)) hx hb dJ17_numberOfLeadingZeros_66 hl rfl (ai_sbn (a := 7) (b := 2) (rfl) (show Int32.ofInt (-2) = -nI 2 by decide) (by omega)) (by decide) rfl (fun ls hl => ?_)
            have hl : lv_has ls 2 [(1, .int (nI 5)), (0, .int (nI ((Y / 65536) / 256)))] := hl
            refine lv_iload_n hx hb dJ17_numberOfLeadingZeros_69 rfl (lv_at hl 1 rfl) ?_
            refine lv_iconst (v := 2) hx hb dJ17_numberOfLeadingZeros_70 (by decide) ?_
            refine lv_iushr hx hb dJ17_numberOfLeadingZeros_71 rfl ?_
            refine g_topi (v := nI (((Y / 65536) / 256) / 4)) (ai_ushr (a := ((Y / 65536) / 256)) (k := 2) (rfl) (rfl) (by omega) (by omega)) ?_
            refine lv_istore_n hx hb dJ17_numberOfLeadingZeros_72 rfl hl (by decide) rfl (fun ls hl => ?_)
            have hl : lv_has ls 2 [(0, .int (nI (((Y / 65536) / 256) / 4))), (1, .int (nI 5))] := hl
            refine lv_iload_n hx hb dJ17_numberOfLeadingZeros_73 rfl (lv_at hl 1 rfl) ?_
            refine lv_iload_n hx hb dJ17_numberOfLeadingZeros_74 rfl (lv_at hl 0 rfl) ?_
            refine lv_iconst (v := 1) hx hb dJ17_numberOfLeadingZeros_75 (by decide) ?_
            refine lv_iushr hx hb dJ17_numberOfLeadingZeros_76 rfl ?_
            refine g_topi (v := nI ((((Y / 65536) / 256) / 4) / 2)) (ai_ushr (a := (((Y / 65536) / 256) / 4)) (k := 1) (rfl) (rfl) (by omega) (by omega)) ?_
            refine lv_isub hx hb dJ17_numberOfLeadingZeros_77 ?_
            refine g_topi (v := nI (5 - ((((Y / 65536) / 256) / 4) / 2))) (ai_sub (a := 5) (b := ((((Y / 65536) / 256) / 4) / 2)) (rfl) (rfl) (by omega)) ?_
            refine g_iretP hx hb hr hlocks ?_ dJ17_numberOfLeadingZeros_78
            have hi : (((Y / 65536) / 256) / 4) / 2 = 0 ∨ (((Y / 65536) / 256) / 4) / 2 = 1 := by omega
            rcases hi with e1 | e1 <;> rw [e1]
            · exact ⟨27, by decide, rfl, by unfold isBl; omega⟩
            · exact ⟨28, by decide, rfl, by unfold isBl; omega⟩
        · skip
          have c_51 := mt (ai_lt (a := ((Y / 65536) / 256)) (b := 16) (rfl) (rfl) (by omega) (by omega)).mpr c_51
          refine lv_iinc (k := 1) (v := (nI 3)) hx hb dJ17_numberOfLeadingZeros_54 hl rfl (ai_sbn (a := 7) (b := 4) (rfl) (show Int32.ofInt (-4) = -nI 4 by decide) (by omega)) (by decide) rfl (fun ls hl => ?_)
          have hl : lv_has ls 2 [(1, .int (nI 3)), (0, .int (nI ((Y / 65536) / 256)))] := hl
          refine lv_iload_n hx hb dJ17_numberOfLeadingZeros_57 rfl (lv_at hl 1 rfl) ?_
          refine lv_iconst (v := 4) hx hb dJ17_numberOfLeadingZeros_58 (by decide) ?_
          refine lv_iushr hx hb dJ17_numberOfLeadingZeros_59 rfl ?_
          refine g_topi (v := nI (((Y / 65536) / 256) / 16)) (ai_ushr (a := ((Y / 65536) / 256)) (k := 4) (rfl) (rfl) (by omega) (by omega)) ?_
          refine lv_istore_n hx hb dJ17_numberOfLeadingZeros_60 rfl hl (by decide) rfl (fun ls hl => ?_)
          have hl : lv_has ls 2 [(0, .int (nI (((Y / 65536) / 256) / 16))), (1, .int (nI 3))] := hl
          refine lv_iload_n hx hb dJ17_numberOfLeadingZeros_61 rfl (lv_at hl 0 rfl) ?_
          refine lv_iconst (v := 4) hx hb dJ17_numberOfLeadingZeros_62 (by decide) ?_
          refine lv_icmp_lt (tgt := 73) hx hb dJ17_numberOfLeadingZeros_63 (by decide) (fun c_63 => ?_) (fun c_63 => ?_)
          · skip
            have c_63 := (ai_lt (a := (((Y / 65536) / 256) / 16)) (b := 4) (rfl) (rfl) (by omega) (by omega)).mp c_63
            refine lv_iload_n hx hb dJ17_numberOfLeadingZeros_73 rfl (lv_at hl 1 rfl) ?_
            refine lv_iload_n hx hb dJ17_numberOfLeadingZeros_74 rfl (lv_at hl 0 rfl) ?_
            refine lv_iconst (v := 1) hx hb dJ17_numberOfLeadingZeros_75 (by decide) ?_
            refine lv_iushr hx hb dJ17_numberOfLeadingZeros_76 rfl ?_
            refine g_topi (v := nI ((((Y / 65536) / 256) / 16) / 2)) (ai_ushr (a := (((Y / 65536) / 256) / 16)) (k := 1) (rfl) (rfl) (by omega) (by omega)) ?_
            refine lv_isub hx hb dJ17_numberOfLeadingZeros_77 ?_
            refine g_topi (v := nI (3 - ((((Y / 65536) / 256) / 16) / 2))) (ai_sub (a := 3) (b := ((((Y / 65536) / 256) / 16) / 2)) (rfl) (rfl) (by omega)) ?_
            refine g_iretP hx hb hr hlocks ?_ dJ17_numberOfLeadingZeros_78
            have hi : (((Y / 65536) / 256) / 16) / 2 = 0 ∨ (((Y / 65536) / 256) / 16) / 2 = 1 := by omega
            rcases hi with e1 | e1 <;> rw [e1]
            · exact ⟨29, by decide, rfl, by unfold isBl; omega⟩
            · exact ⟨30, by decide, rfl, by unfold isBl; omega⟩
          · skip
            have c_63 := mt (ai_lt (a := (((Y / 65536) / 256) / 16)) (b := 4) (rfl) (rfl) (by omega) (by omega)).mpr c_63
            refine lv_iinc (k := 1) (v := (nI 1)) hx hb dJ17_numberOfLeadingZeros_66 hl rfl (ai_sbn (a := 3) (b := 2) (rfl) (show Int32.ofInt (-2) = -nI 2 by decide) (by omega)) (by decide) rfl (fun ls hl => ?_)
            have hl : lv_has ls 2 [(1, .int (nI 1)), (0, .int (nI (((Y / 65536) / 256) / 16)))] := hl
            refine lv_iload_n hx hb dJ17_numberOfLeadingZeros_69 rfl (lv_at hl 1 rfl) ?_
            refine lv_iconst (v := 2) hx hb dJ17_numberOfLeadingZeros_70 (by decide) ?_
            refine lv_iushr hx hb dJ17_numberOfLeadingZeros_71 rfl ?_
            refine g_topi (v := nI ((((Y / 65536) / 256) / 16) / 4)) (ai_ushr (a := (((Y / 65536) / 256) / 16)) (k := 2) (rfl) (rfl) (by omega) (by omega)) ?_
            refine lv_istore_n hx hb dJ17_numberOfLeadingZeros_72 rfl hl (by decide) rfl (fun ls hl => ?_)
            have hl : lv_has ls 2 [(0, .int (nI ((((Y / 65536) / 256) / 16) / 4))), (1, .int (nI 1))] := hl
            refine lv_iload_n hx hb dJ17_numberOfLeadingZeros_73 rfl (lv_at hl 1 rfl) ?_
            refine lv_iload_n hx hb dJ17_numberOfLeadingZeros_74 rfl (lv_at hl 0 rfl) ?_
            refine lv_iconst (v := 1) hx hb dJ17_numberOfLeadingZeros_75 (by decide) ?_
            refine lv_iushr hx hb dJ17_numberOfLeadingZeros_76 rfl ?_
            refine g_topi (v := nI (((((Y / 65536) / 256) / 16) / 4) / 2)) (ai_ushr (a := ((((Y / 65536) / 256) / 16) / 4)) (k := 1) (rfl) (rfl) (by omega) (by omega)) ?_
            refine lv_isub hx hb dJ17_numberOfLeadingZeros_77 ?_
            refine g_topi (v := nI (1 - (((((Y / 65536) / 256) / 16) / 4) / 2))) (ai_sub (a := 1) (b := (((((Y / 65536) / 256) / 16) / 4) / 2)) (rfl) (rfl) (by omega)) ?_
            refine g_iretP hx hb hr hlocks ?_ dJ17_numberOfLeadingZeros_78
            have hi : ((((Y / 65536) / 256) / 16) / 4) / 2 = 0 ∨ ((((Y / 65536) / 256) / 16) / 4) / 2 = 1 := by omega
            rcases hi with e1 | e1 <;> rw [e1]
            · exact ⟨31, by decide, rfl, by unfold isBl; omega⟩
            · exact ⟨32, by decide, rfl, by unfold isBl; omega⟩
  · skip
    have c_1 : ¬ (0 < Y ∧ Y < 2147483648) := fun q => c_1 ((nI_pos_iff hY).mpr q)
    refine lv_iload_n hx hb dJ17_numberOfLeadingZeros_4 rfl (lv_at hl 0 rfl) ?_
    refine lv_if_ne (tgt := 13) hx hb dJ17_numberOfLeadingZeros_5 (by decide) (fun c_5 => ?_) (fun c_5 => ?_)
    · skip
      have c_5 : ¬ Y = 0 := fun q => c_5 (by rw [q]; rfl)
      refine lv_iconst (v := 0) hx hb dJ17_numberOfLeadingZeros_13 (by decide) ?_
      refine g_iretP hx hb hr hlocks ?_ dJ17_numberOfLeadingZeros_14
      exact ⟨32, Nat.le_refl _, rfl, by unfold isBl; omega⟩
    · skip
      have c_5 : Y = 0 := nI_inj hY (by decide) c_5
      refine lv_bipush (v := 32) hx hb dJ17_numberOfLeadingZeros_8 (by decide) ?_
      refine lv_goto (tgt := 14) hx hb dJ17_numberOfLeadingZeros_10 (by decide) ?_
      refine g_iretP hx hb hr hlocks ?_ dJ17_numberOfLeadingZeros_14
      have e0 : Y = 0 := by omega
      subst e0
      exact ⟨0, by decide, rfl, by unfold isBl; decide⟩
set_option maxHeartbeats 1000000 in
theorem m_blInt (l : Launch) (z : State) (H0 : Heap)  (Y : Nat) (hY : Y < 4294967296) : Met l yJ22_bitLengthForInt (ws_ yJ22_bitLengthForInt cJ22_bitLengthForInt 1 (some .int)) { frames := 1, cells := 0, slots := 0, locals := 21 } (gPc z H0 [.int (nI Y)]) (gPi H0 (fun r => ∃ b, b ≤ 32 ∧ r = nI b ∧ isBl Y b)) 0 0 gno := by
  refine g_start (by decide +kernel) (Nat.le_of_ble_eq_true rfl) ?_
  intro p e s m below meth c ls hx hb hr hlocks hml hown hname hts hwm hl
  have hown : s.vm.findClass "java/math/BigInteger" = some m.cls := hown
  have hal : z.vm.Alike s.vm := hwm.alike
  have hCF : CallFix p m c cJ22_bitLengthForInt 1 s [.int (nI Y)].toArray lw_all "java/math/BigInteger" := ⟨hx, hb, hml, hown, hts⟩
  have hl : lv_has ls 1 [(0, .int (nI Y))] := hl
  refine lv_bipush (v := 32) hx hb dJ22_bitLengthForInt_0 (by decide) ?_
  refine lv_iload_n hx hb dJ22_bitLengthForInt_2 rfl (lv_at hl 0 rfl) ?_
  refine gcS1_iP hCF hwm hl.1 (m_nlz l z H0  Y hY ) (lw_S q861 q862 q78 q863) yd_J17_numberOfLeadingZeros ⟨Nat.le_of_ble_eq_true rfl, Nat.le_of_ble_eq_true rfl⟩ ⟨Nat.le_of_ble_eq_true rfl, Nat.le_of_ble_eq_true rfl⟩ (Nat.le_of_ble_eq_true rfl) dJ22_bitLengthForInt_3 (fun rr hp => ?_)
  obtain ⟨b, hb1, hb2, hb3⟩ := hp
  subst hb2
  refine lv_isub hx hb dJ22_bitLengthForInt_6 ?_
  refine g_topi (v := (nI b)) ((ai_sub (a := 32) (b := 32 - b) rfl rfl (by omega)).trans (congrArg nI (by omega))) ?_
  refine g_iretP hx hb hr hlocks ?_ dJ22_bitLengthForInt_7
  exact ⟨b, hb1, rfl, hb3⟩
set_option maxHeartbeats 1000000 in
theorem m_shlWork (l : Launch) (z : State) (H0 : Heap) (a : Nat) (b : Nat) (o s0 n na nb : Nat) (w : Bool) (d g : Nat → Nat) (hs0 : 0 < s0) (hs : s0 < 32) (hab : b ≠ a) (hna : na < 134217728) (hnb : nb < 134217728) (h1 : o + n ≤ na) (h2 : n + 1 ≤ nb) (hd : ∀ i, d i < 4294967296) (hg : ∀ i, g i < 4294967296) (hA : gI z true .int H0 a na (dI g)) (hB : gI z w .int H0 b nb (dI d)) : Met l yJ22_shiftLeftImplWorker (ws_ yJ22_shiftLeftImplWorker cJ22_shiftLeftImplWorker 7 (none)) { frames := 0, cells := 0, slots := 0, locals := 0 } (gPc z H0 [.ref a, .ref b, .int (nI o), .int (nI s0), .int (nI n)]) (gRv (fun q => q = a) H0 (fun H1 => gI z true .int H1 a na (dI (wk d g o s0 n)))) 0 0 (fun q => q = a) := by
  refine g_start (by decide +kernel) (Nat.le_of_ble_eq_true rfl) ?_
  intro p e s m below meth c ls hx hb hr hlocks hml hown hname hts hwm hl
  have hown : s.vm.findClass "java/math/BigInteger" = some m.cls := hown
  have hal : z.vm.Alike s.vm := hwm.alike
  have hCF : CallFix p m c cJ22_shiftLeftImplWorker 7 s [.ref a, .ref b, .int (nI o), .int (nI s0), .int (nI n)].toArray lw_all "java/math/BigInteger" := ⟨hx, hb, hml, hown, hts⟩
  have hl : lv_has ls 7 [(0, .ref a), (1, .ref b), (2, .int (nI o)), (3, .int (nI s0)), (4, .int (nI n))] := hl
  have hS : va_S (fun q => q = a) H0 H0 [] := va_S.rf
  have lt_a := hA.lt
  have lt_b := hB.lt
  refine lv_bipush (v := 32) hx hb dJ22_shiftLeftImplWorker_0 (by decide) ?_
  refine lv_iload_n hx hb dJ22_shiftLeftImplWorker_2 rfl (lv_at hl 3 rfl) ?_
  refine lv_isub hx hb dJ22_shiftLeftImplWorker_3 ?_
  refine g_topi (v := nI (32 - s0)) (ai_sub (a := 32) (b := s0) (rfl) (rfl) (by omega)) ?_
  refine lv_istore hx hb dJ22_shiftLeftImplWorker_4 hl (by decide) rfl (fun ls hl => ?_)
  have hl : lv_has ls 7 [(5, .int (nI (32 - s0))), (0, .ref a), (1, .ref b), (2, .int (nI o)), (3, .int (nI s0)), (4, .int (nI n))] := hl
  refine lv_iconst (v := 0) hx hb dJ22_shiftLeftImplWorker_6 (by decide) ?_
  refine lv_istore hx hb dJ22_shiftLeftImplWorker_7 hl (by decide) rfl (fun ls hl => ?_)
  have hl : lv_has ls 7 [(6, .int 0), (5, .int (nI (32 - s0))), (0, .ref a), (1, .ref b), (2, .int (nI o)), (3, .int (nI s0)), (4, .int (nI n))] := hl
  have e_fit : g = (wk d g o s0 0) := by
    exact (wk_0 d g o s0).symm
  replace hA : gI z true .int H0 a na (dI (wk d g o s0 0)) := by
    rw [← e_fit]
    exact hA
  clear e_fit
  replace hl : lv_has ls 7 [(6, .int (nI 0)), (5, .int (nI (32 - s0))), (0, .ref a), (1, .ref b), (2, .int (nI (o + 0))), (3, .int (nI s0)), (4, .int (nI n))] := by
    exact hl
  have loop : ∀ (n_ : Nat) (t : Nat), (t ≤ n) → (n - t) < n_ → ∀ (H_1 : Heap) (locs : List Loc), va_S (fun q => q = a) H0 H_1 locs → gI z true .int H_1 a na (dI (wk d g o s0 t)) → gI z w .int H_1 b nb (dI d) → ∀ (ls : Array Slot), lv_has ls 7 [(6, .int (nI t)), (5, .int (nI (32 - s0))), (0, .ref a), (1, .ref b), (2, .int (nI (o + t))), (3, .int (nI s0)), (4, .int (nI n))] → W p l e { frames := 0, cells := 0, slots := 0, locals := 0 } s m [.ref a, .ref b, .int (nI o), .int (nI s0), .int (nI n)].toArray below meth c H_1 locs 0 0 (MQ below (gRv (fun q => q = a) H0 (fun H1 => gI z true .int H1 a na (dI (wk d g o s0 n)))) [.ref a, .ref b, .int (nI o), .int (nI s0), .int (nI n)].toArray s 0 0 (fun q => q = a)) (F0 m 9 ls []) := by
    intro n_
    induction n_ with
    | zero => intro t ht hm_; exact absurd hm_ (Nat.not_lt_zero _)
    | succ n_ ih_loop =>
      intro t ht hm_ H_1 locs hS hA hB ls hl
      refine lv_iload hx hb dJ22_shiftLeftImplWorker_9 (lv_at hl 0 rfl) ?_
      refine lv_iload hx hb dJ22_shiftLeftImplWorker_11 (lv_at hl 6 rfl) ?_
      refine lv_icmp_ge (tgt := 42) hx hb dJ22_shiftLeftImplWorker_13 (by decide) (fun c_13 => ?_) (fun c_13 => ?_)
      · skip
        have c_13 := (ai_le (a := n) (b := t) (rfl) (rfl) (by omega) (by omega)).mp c_13
        refine g_vret hx hb hr hlocks hS (Nat.le_of_ble_eq_true rfl) (Nat.le_of_ble_eq_true rfl) ?_ dJ22_shiftLeftImplWorker_42
        have e0 : t = n := by omega
        subst e0
        exact hA
      · skip
        have c_13 := mt (ai_le (a := n) (b := t) (rfl) (rfl) (by omega) (by omega)).mpr c_13
        refine lv_aload_n hx hb dJ22_shiftLeftImplWorker_16 rfl (lv_at hl 2 rfl) ?_
        refine lv_iload_n hx hb dJ22_shiftLeftImplWorker_17 rfl (lv_at hl 4 rfl) ?_
        refine lv_iinc (k := 4) (v := (nI (o + t + 1))) hx hb dJ22_shiftLeftImplWorker_18 hl rfl (ai_add (a := (o + t)) (b := 1) (rfl) (show Int32.ofInt 1 = nI 1 by decide)) (by decide) rfl (fun ls hl => ?_)
        have hl : lv_has ls 7 [(2, .int (nI (o + t + 1))), (6, .int (nI t)), (5, .int (nI (32 - s0))), (0, .ref a), (1, .ref b), (3, .int (nI s0)), (4, .int (nI n))] := hl
        refine lv_aload_n hx hb dJ22_shiftLeftImplWorker_21 rfl (lv_at hl 4 rfl) ?_
        refine lv_iload hx hb dJ22_shiftLeftImplWorker_22 (lv_at hl 1 rfl) ?_
        refine lv_iinc (k := 1) (v := (nI (t + 1))) hx hb dJ22_shiftLeftImplWorker_24 hl rfl (ai_add (a := t) (b := 1) (rfl) (show Int32.ofInt 1 = nI 1 by decide)) (by decide) rfl (fun ls hl => ?_)
        have hl : lv_has ls 7 [(6, .int (nI (t + 1))), (2, .int (nI (o + t + 1))), (5, .int (nI (32 - s0))), (0, .ref a), (1, .ref b), (3, .int (nI s0)), (4, .int (nI n))] := hl
        refine gw_iald hx hb hal hB t (rfl) (by omega) (by omega) dJ22_shiftLeftImplWorker_27 ?_
        refine g_topi (v := (nI (d t))) rfl ?_
        refine lv_iload_n hx hb dJ22_shiftLeftImplWorker_28 rfl (lv_at hl 5 rfl) ?_
        refine lv_ishl hx hb dJ22_shiftLeftImplWorker_29 ?_
        refine g_topi (v := nI ((d t) * 2 ^ s0)) (ai_shlv (a := (d t)) (k := s0) (rfl) (rfl) (by omega)) ?_
        refine lv_aload_n hx hb dJ22_shiftLeftImplWorker_30 rfl (lv_at hl 4 rfl) ?_
        refine lv_iload hx hb dJ22_shiftLeftImplWorker_31 (lv_at hl 0 rfl) ?_
        refine gw_iald hx hb hal hB (t + 1) (rfl) (by omega) (by omega) dJ22_shiftLeftImplWorker_33 ?_
        refine g_topi (v := (nI (d (t + 1)))) rfl ?_
        refine lv_iload hx hb dJ22_shiftLeftImplWorker_34 (lv_at hl 2 rfl) ?_
        refine lv_iushr hx hb dJ22_shiftLeftImplWorker_36 rfl ?_
        refine g_topi (v := nI ((d (t + 1)) / 2 ^ (32 - s0))) (ai_ushr (a := (d (t + 1))) (k := (32 - s0)) (rfl) (rfl) (hd _) (by omega)) ?_
        refine lv_ior hx hb dJ22_shiftLeftImplWorker_37 ?_
        refine g_topi (v := (nI ((d t * 2 ^ s0) % 4294967296 + d (t + 1) / 2 ^ (32 - s0)))) ((sh_dig hs hs0 (hd (t + 1))).1) ?_
        refine gw_iast (f := (dI (wk d g o s0 t))) hx hb hal hA hS (by have hsz := hS.1; (try dsimp only [gfr]) <;> omega) (o + t) (rfl) (by omega) (by omega) dJ22_shiftLeftImplWorker_38 (fun H_2 locs h_new hch hS => ?_)
        have hB := hB.ch hch (by omega)
        have sz_H_2 := hch.1
        clear hch
        have hA : gI z true .int H_2 a na (upd (dI (wk d g o s0 t)) (o + t) (nI ((d t * 2 ^ s0) % 4294967296 + d (t + 1) / 2 ^ (32 - s0)))) := h_new
        replace hA : gI z true .int H_2 a na (dI (dup (wk d g o s0 t) (o + t) (((d t * 2 ^ s0) % 4294967296 + d (t + 1) / 2 ^ (32 - s0)) % 4294967296))) := by
          have q := hA
          rw [dI_put] at q
          exact q
        have bd_3 : ∀ i, (dup (wk d g o s0 t) (o + t) (((d t * 2 ^ s0) % 4294967296 + d (t + 1) / 2 ^ (32 - s0)) % 4294967296)) i < 4294967296 := dup_lt (wk_lt hd hg hs hs0) (Nat.mod_lt _ (by decide))
        refine lv_goto (tgt := 9) hx hb dJ22_shiftLeftImplWorker_39 (by decide) ?_
        have e_fit : (dup (wk d g o s0 t) (o + t) (((d t * 2 ^ s0) % 4294967296 + d (t + 1) / 2 ^ (32 - s0)) % 4294967296)) = (wk d g o s0 (t + 1)) := by
          exact wk_s hd hs hs0
        replace hA : gI z true .int H_2 a na (dI (wk d g o s0 (t + 1))) := by
          rw [← e_fit]
          exact hA
        clear e_fit
        replace hl : lv_has ls 7 [(6, .int (nI (t + 1))), (2, .int (nI (o + (t + 1)))), (5, .int (nI (32 - s0))), (0, .ref a), (1, .ref b), (3, .int (nI s0)), (4, .int (nI n))] := by
          exact hl
        exact ih_loop (t + 1) (by omega) (by omega) H_2 _ hS hA hB ls (lv_sub hl [0, 2, 3, 4, 1, 5, 6] rfl)
  exact loop _ 0 (Nat.zero_le _) (Nat.lt_succ_self _) H0 _ hS hA hB ls (lv_sub hl [0, 1, 2, 3, 4, 5, 6] rfl)
