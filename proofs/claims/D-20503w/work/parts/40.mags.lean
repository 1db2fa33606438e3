/-! ## walks (written by tools) -/
set_option maxRecDepth 100000
def dkwJ13_copyOfRangeInt_1 : List UInt8 := [184, 1, 48, 184, 0, 150, 25, 4, 176]
abbrev dktJ13_copyOfRangeInt_1 : List UInt8 := dkwJ13_copyOfRangeInt_1 ++ []
def dkwJ13_copyOfRangeInt_0 : List UInt8 := [27, 28, 184, 1, 87, 28, 27, 100, 62, 29, 188, 10, 58, 4, 42, 27, 25, 4, 3, 42, 190, 27, 100, 29]
abbrev dktJ13_copyOfRangeInt_0 : List UInt8 := dkwJ13_copyOfRangeInt_0 ++ dktJ13_copyOfRangeInt_1
theorem dksJ13_copyOfRangeInt_0 : cJ13_copyOfRangeInt.data.toList.drop 0 = dktJ13_copyOfRangeInt_0 := by decide +kernel
theorem dksJ13_copyOfRangeInt_1 : cJ13_copyOfRangeInt.data.toList.drop 24 = dktJ13_copyOfRangeInt_1 := dk_seg dksJ13_copyOfRangeInt_0 24 rfl rfl
theorem dJ13_copyOfRangeInt_0 : decode cJ13_copyOfRangeInt 0 = .ok (.iload_n 1, 1) := dk_27 (dk_at dksJ13_copyOfRangeInt_0 0 rfl rfl)
theorem dJ13_copyOfRangeInt_1 : decode cJ13_copyOfRangeInt 1 = .ok (.iload_n 2, 1) := dk_28 (dk_at dksJ13_copyOfRangeInt_0 1 rfl rfl)
theorem dJ13_copyOfRangeInt_2 : decode cJ13_copyOfRangeInt 2 = .ok (.invokestatic 343, 3) := dk_184 1 87 (dk_at dksJ13_copyOfRangeInt_0 2 rfl rfl)
theorem dJ13_copyOfRangeInt_5 : decode cJ13_copyOfRangeInt 5 = .ok (.iload_n 2, 1) := dk_28 (dk_at dksJ13_copyOfRangeInt_0 5 rfl rfl)
theorem dJ13_copyOfRangeInt_6 : decode cJ13_copyOfRangeInt 6 = .ok (.iload_n 1, 1) := dk_27 (dk_at dksJ13_copyOfRangeInt_0 6 rfl rfl)
theorem dJ13_copyOfRangeInt_7 : decode cJ13_copyOfRangeInt 7 = .ok (.isub, 1) := dk_100 (dk_at dksJ13_copyOfRangeInt_0 7 rfl rfl)
theorem dJ13_copyOfRangeInt_8 : decode cJ13_copyOfRangeInt 8 = .ok (.istore_n 3, 1) := dk_62 (dk_at dksJ13_copyOfRangeInt_0 8 rfl rfl)
theorem dJ13_copyOfRangeInt_9 : decode cJ13_copyOfRangeInt 9 = .ok (.iload_n 3, 1) := dk_29 (dk_at dksJ13_copyOfRangeInt_0 9 rfl rfl)
theorem dJ13_copyOfRangeInt_10 : decode cJ13_copyOfRangeInt 10 = .ok (.newarray .int, 2) := dk_188_10 (dk_at dksJ13_copyOfRangeInt_0 10 rfl rfl)
theorem dJ13_copyOfRangeInt_12 : decode cJ13_copyOfRangeInt 12 = .ok (.astore 4, 2) := dk_58 4 (dk_at dksJ13_copyOfRangeInt_0 12 rfl rfl)
theorem dJ13_copyOfRangeInt_14 : decode cJ13_copyOfRangeInt 14 = .ok (.aload_n 0, 1) := dk_42 (dk_at dksJ13_copyOfRangeInt_0 14 rfl rfl)
theorem dJ13_copyOfRangeInt_15 : decode cJ13_copyOfRangeInt 15 = .ok (.iload_n 1, 1) := dk_27 (dk_at dksJ13_copyOfRangeInt_0 15 rfl rfl)
theorem dJ13_copyOfRangeInt_16 : decode cJ13_copyOfRangeInt 16 = .ok (.aload 4, 2) := dk_25 4 (dk_at dksJ13_copyOfRangeInt_0 16 rfl rfl)
theorem dJ13_copyOfRangeInt_18 : decode cJ13_copyOfRangeInt 18 = .ok (.iconst 0, 1) := dk_3 (dk_at dksJ13_copyOfRangeInt_0 18 rfl rfl)
theorem dJ13_copyOfRangeInt_19 : decode cJ13_copyOfRangeInt 19 = .ok (.aload_n 0, 1) := dk_42 (dk_at dksJ13_copyOfRangeInt_0 19 rfl rfl)
theorem dJ13_copyOfRangeInt_20 : decode cJ13_copyOfRangeInt 20 = .ok (.arraylength, 1) := dk_190 (dk_at dksJ13_copyOfRangeInt_0 20 rfl rfl)
theorem dJ13_copyOfRangeInt_21 : decode cJ13_copyOfRangeInt 21 = .ok (.iload_n 1, 1) := dk_27 (dk_at dksJ13_copyOfRangeInt_0 21 rfl rfl)
theorem dJ13_copyOfRangeInt_22 : decode cJ13_copyOfRangeInt 22 = .ok (.isub, 1) := dk_100 (dk_at dksJ13_copyOfRangeInt_0 22 rfl rfl)
theorem dJ13_copyOfRangeInt_23 : decode cJ13_copyOfRangeInt 23 = .ok (.iload_n 3, 1) := dk_29 (dk_at dksJ13_copyOfRangeInt_0 23 rfl rfl)
theorem dJ13_copyOfRangeInt_24 : decode cJ13_copyOfRangeInt 24 = .ok (.invokestatic 304, 3) := dk_184 1 48 (dk_at dksJ13_copyOfRangeInt_1 0 rfl rfl)
theorem dJ13_copyOfRangeInt_27 : decode cJ13_copyOfRangeInt 27 = .ok (.invokestatic 150, 3) := dk_184 0 150 (dk_at dksJ13_copyOfRangeInt_1 3 rfl rfl)
theorem dJ13_copyOfRangeInt_30 : decode cJ13_copyOfRangeInt 30 = .ok (.aload 4, 2) := dk_25 4 (dk_at dksJ13_copyOfRangeInt_1 6 rfl rfl)
theorem dJ13_copyOfRangeInt_32 : decode cJ13_copyOfRangeInt 32 = .ok (.areturn, 1) := dk_176 (dk_at dksJ13_copyOfRangeInt_1 8 rfl rfl)
def dkwJ13_copyOfRange_2_1 : List UInt8 := [176]
abbrev dktJ13_copyOfRange_2_1 : List UInt8 := dkwJ13_copyOfRange_2_1 ++ []
def dkwJ13_copyOfRange_2_0 : List UInt8 := [27, 154, 0, 9, 28, 42, 190, 159, 0, 10, 42, 27, 28, 184, 1, 95, 176, 42, 182, 1, 60, 192, 1, 61]
abbrev dktJ13_copyOfRange_2_0 : List UInt8 := dkwJ13_copyOfRange_2_0 ++ dktJ13_copyOfRange_2_1
theorem dksJ13_copyOfRange_2_0 : cJ13_copyOfRange_2.data.toList.drop 0 = dktJ13_copyOfRange_2_0 := by decide +kernel
theorem dksJ13_copyOfRange_2_1 : cJ13_copyOfRange_2.data.toList.drop 24 = dktJ13_copyOfRange_2_1 := dk_seg dksJ13_copyOfRange_2_0 24 rfl rfl
theorem dJ13_copyOfRange_2_0 : decode cJ13_copyOfRange_2 0 = .ok (.iload_n 1, 1) := dk_27 (dk_at dksJ13_copyOfRange_2_0 0 rfl rfl)
theorem dJ13_copyOfRange_2_1 : decode cJ13_copyOfRange_2 1 = .ok (.ifCond .ne 9, 3) := dk_154 0 9 (dk_at dksJ13_copyOfRange_2_0 1 rfl rfl)
theorem dJ13_copyOfRange_2_4 : decode cJ13_copyOfRange_2 4 = .ok (.iload_n 2, 1) := dk_28 (dk_at dksJ13_copyOfRange_2_0 4 rfl rfl)
theorem dJ13_copyOfRange_2_5 : decode cJ13_copyOfRange_2 5 = .ok (.aload_n 0, 1) := dk_42 (dk_at dksJ13_copyOfRange_2_0 5 rfl rfl)
theorem dJ13_copyOfRange_2_6 : decode cJ13_copyOfRange_2 6 = .ok (.arraylength, 1) := dk_190 (dk_at dksJ13_copyOfRange_2_0 6 rfl rfl)
theorem dJ13_copyOfRange_2_7 : decode cJ13_copyOfRange_2 7 = .ok (.if_icmp .eq 10, 3) := dk_159 0 10 (dk_at dksJ13_copyOfRange_2_0 7 rfl rfl)
theorem dJ13_copyOfRange_2_10 : decode cJ13_copyOfRange_2 10 = .ok (.aload_n 0, 1) := dk_42 (dk_at dksJ13_copyOfRange_2_0 10 rfl rfl)
theorem dJ13_copyOfRange_2_11 : decode cJ13_copyOfRange_2 11 = .ok (.iload_n 1, 1) := dk_27 (dk_at dksJ13_copyOfRange_2_0 11 rfl rfl)
theorem dJ13_copyOfRange_2_12 : decode cJ13_copyOfRange_2 12 = .ok (.iload_n 2, 1) := dk_28 (dk_at dksJ13_copyOfRange_2_0 12 rfl rfl)
theorem dJ13_copyOfRange_2_13 : decode cJ13_copyOfRange_2 13 = .ok (.invokestatic 351, 3) := dk_184 1 95 (dk_at dksJ13_copyOfRange_2_0 13 rfl rfl)
theorem dJ13_copyOfRange_2_16 : decode cJ13_copyOfRange_2 16 = .ok (.areturn, 1) := dk_176 (dk_at dksJ13_copyOfRange_2_0 16 rfl rfl)
theorem dJ13_copyOfRange_2_17 : decode cJ13_copyOfRange_2 17 = .ok (.aload_n 0, 1) := dk_42 (dk_at dksJ13_copyOfRange_2_0 17 rfl rfl)
theorem dJ13_copyOfRange_2_18 : decode cJ13_copyOfRange_2 18 = .ok (.invokevirtual 316, 3) := dk_182 1 60 (dk_at dksJ13_copyOfRange_2_0 18 rfl rfl)
theorem dJ13_copyOfRange_2_21 : decode cJ13_copyOfRange_2 21 = .ok (.checkcast 317, 3) := dk_192 1 61 (dk_at dksJ13_copyOfRange_2_0 21 rfl rfl)
theorem dJ13_copyOfRange_2_24 : decode cJ13_copyOfRange_2 24 = .ok (.areturn, 1) := dk_176 (dk_at dksJ13_copyOfRange_2_1 0 rfl rfl)
def dkwJ22_trustedStripLeadingZeroInts_1 : List UInt8 := [154, 0, 7, 42, 167, 0, 9, 42, 28, 27, 184, 1, 177, 176]
abbrev dktJ22_trustedStripLeadingZeroInts_1 : List UInt8 := dkwJ22_trustedStripLeadingZeroInts_1 ++ []
def dkwJ22_trustedStripLeadingZeroInts_0 : List UInt8 := [42, 190, 60, 3, 61, 28, 27, 162, 0, 15, 42, 28, 46, 154, 0, 9, 132, 2, 1, 167, 255, 242, 28]
abbrev dktJ22_trustedStripLeadingZeroInts_0 : List UInt8 := dkwJ22_trustedStripLeadingZeroInts_0 ++ dktJ22_trustedStripLeadingZeroInts_1
theorem dksJ22_trustedStripLeadingZeroInts_0 : cJ22_trustedStripLeadingZeroInts.data.toList.drop 0 = dktJ22_trustedStripLeadingZeroInts_0 := by decide +kernel
theorem dksJ22_trustedStripLeadingZeroInts_1 : cJ22_trustedStripLeadingZeroInts.data.toList.drop 23 = dktJ22_trustedStripLeadingZeroInts_1 := dk_seg dksJ22_trustedStripLeadingZeroInts_0 23 rfl rfl
theorem dJ22_trustedStripLeadingZeroInts_0 : decode cJ22_trustedStripLeadingZeroInts 0 = .ok (.aload_n 0, 1) := dk_42 (dk_at dksJ22_trustedStripLeadingZeroInts_0 0 rfl rfl)
theorem dJ22_trustedStripLeadingZeroInts_1 : decode cJ22_trustedStripLeadingZeroInts 1 = .ok (.arraylength, 1) := dk_190 (dk_at dksJ22_trustedStripLeadingZeroInts_0 1 rfl rfl)
theorem dJ22_trustedStripLeadingZeroInts_2 : decode cJ22_trustedStripLeadingZeroInts 2 = .ok (.istore_n 1, 1) := dk_60 (dk_at dksJ22_trustedStripLeadingZeroInts_0 2 rfl rfl)
theorem dJ22_trustedStripLeadingZeroInts_3 : decode cJ22_trustedStripLeadingZeroInts 3 = .ok (.iconst 0, 1) := dk_3 (dk_at dksJ22_trustedStripLeadingZeroInts_0 3 rfl rfl)
theorem dJ22_trustedStripLeadingZeroInts_4 : decode cJ22_trustedStripLeadingZeroInts 4 = .ok (.istore_n 2, 1) := dk_61 (dk_at dksJ22_trustedStripLeadingZeroInts_0 4 rfl rfl)
theorem dJ22_trustedStripLeadingZeroInts_5 : decode cJ22_trustedStripLeadingZeroInts 5 = .ok (.iload_n 2, 1) := dk_28 (dk_at dksJ22_trustedStripLeadingZeroInts_0 5 rfl rfl)
theorem dJ22_trustedStripLeadingZeroInts_6 : decode cJ22_trustedStripLeadingZeroInts 6 = .ok (.iload_n 1, 1) := dk_27 (dk_at dksJ22_trustedStripLeadingZeroInts_0 6 rfl rfl)
theorem dJ22_trustedStripLeadingZeroInts_7 : decode cJ22_trustedStripLeadingZeroInts 7 = .ok (.if_icmp .ge 15, 3) := dk_162 0 15 (dk_at dksJ22_trustedStripLeadingZeroInts_0 7 rfl rfl)
theorem dJ22_trustedStripLeadingZeroInts_10 : decode cJ22_trustedStripLeadingZeroInts 10 = .ok (.aload_n 0, 1) := dk_42 (dk_at dksJ22_trustedStripLeadingZeroInts_0 10 rfl rfl)
theorem dJ22_trustedStripLeadingZeroInts_11 : decode cJ22_trustedStripLeadingZeroInts 11 = .ok (.iload_n 2, 1) := dk_28 (dk_at dksJ22_trustedStripLeadingZeroInts_0 11 rfl rfl)
theorem dJ22_trustedStripLeadingZeroInts_12 : decode cJ22_trustedStripLeadingZeroInts 12 = .ok (.iaload, 1) := dk_46 (dk_at dksJ22_trustedStripLeadingZeroInts_0 12 rfl rfl)
theorem dJ22_trustedStripLeadingZeroInts_13 : decode cJ22_trustedStripLeadingZeroInts 13 = .ok (.ifCond .ne 9, 3) := dk_154 0 9 (dk_at dksJ22_trustedStripLeadingZeroInts_0 13 rfl rfl)
theorem dJ22_trustedStripLeadingZeroInts_16 : decode cJ22_trustedStripLeadingZeroInts 16 = .ok (.iinc 2 1, 3) := dk_132 2 1 (dk_at dksJ22_trustedStripLeadingZeroInts_0 16 rfl rfl)
theorem dJ22_trustedStripLeadingZeroInts_19 : decode cJ22_trustedStripLeadingZeroInts 19 = .ok (.goto (-14), 3) := dk_167 255 242 (dk_at dksJ22_trustedStripLeadingZeroInts_0 19 rfl rfl)
theorem dJ22_trustedStripLeadingZeroInts_22 : decode cJ22_trustedStripLeadingZeroInts 22 = .ok (.iload_n 2, 1) := dk_28 (dk_at dksJ22_trustedStripLeadingZeroInts_0 22 rfl rfl)
theorem dJ22_trustedStripLeadingZeroInts_23 : decode cJ22_trustedStripLeadingZeroInts 23 = .ok (.ifCond .ne 7, 3) := dk_154 0 7 (dk_at dksJ22_trustedStripLeadingZeroInts_1 0 rfl rfl)
theorem dJ22_trustedStripLeadingZeroInts_26 : decode cJ22_trustedStripLeadingZeroInts 26 = .ok (.aload_n 0, 1) := dk_42 (dk_at dksJ22_trustedStripLeadingZeroInts_1 3 rfl rfl)
theorem dJ22_trustedStripLeadingZeroInts_27 : decode cJ22_trustedStripLeadingZeroInts 27 = .ok (.goto 9, 3) := dk_167 0 9 (dk_at dksJ22_trustedStripLeadingZeroInts_1 4 rfl rfl)
theorem dJ22_trustedStripLeadingZeroInts_30 : decode cJ22_trustedStripLeadingZeroInts 30 = .ok (.aload_n 0, 1) := dk_42 (dk_at dksJ22_trustedStripLeadingZeroInts_1 7 rfl rfl)
theorem dJ22_trustedStripLeadingZeroInts_31 : decode cJ22_trustedStripLeadingZeroInts 31 = .ok (.iload_n 2, 1) := dk_28 (dk_at dksJ22_trustedStripLeadingZeroInts_1 8 rfl rfl)
theorem dJ22_trustedStripLeadingZeroInts_32 : decode cJ22_trustedStripLeadingZeroInts 32 = .ok (.iload_n 1, 1) := dk_27 (dk_at dksJ22_trustedStripLeadingZeroInts_1 9 rfl rfl)
theorem dJ22_trustedStripLeadingZeroInts_33 : decode cJ22_trustedStripLeadingZeroInts 33 = .ok (.invokestatic 433, 3) := dk_184 1 177 (dk_at dksJ22_trustedStripLeadingZeroInts_1 10 rfl rfl)
theorem dJ22_trustedStripLeadingZeroInts_36 : decode cJ22_trustedStripLeadingZeroInts 36 = .ok (.areturn, 1) := dk_176 (dk_at dksJ22_trustedStripLeadingZeroInts_1 13 rfl rfl)
def dkwJ22_multiplyToLenCheck_1 : List UInt8 := [183, 1, 197, 191, 177]
abbrev dktJ22_multiplyToLenCheck_1 : List UInt8 := dkwJ22_multiplyToLenCheck_1 ++ []
def dkwJ22_multiplyToLenCheck_0 : List UInt8 := [27, 157, 0, 4, 177, 42, 184, 1, 191, 87, 27, 42, 190, 164, 0, 14, 187, 1, 195, 89, 27, 4, 100]
abbrev dktJ22_multiplyToLenCheck_0 : List UInt8 := dkwJ22_multiplyToLenCheck_0 ++ dktJ22_multiplyToLenCheck_1
theorem dksJ22_multiplyToLenCheck_0 : cJ22_multiplyToLenCheck.data.toList.drop 0 = dktJ22_multiplyToLenCheck_0 := by decide +kernel
theorem dksJ22_multiplyToLenCheck_1 : cJ22_multiplyToLenCheck.data.toList.drop 23 = dktJ22_multiplyToLenCheck_1 := dk_seg dksJ22_multiplyToLenCheck_0 23 rfl rfl
theorem dJ22_multiplyToLenCheck_0 : decode cJ22_multiplyToLenCheck 0 = .ok (.iload_n 1, 1) := dk_27 (dk_at dksJ22_multiplyToLenCheck_0 0 rfl rfl)
theorem dJ22_multiplyToLenCheck_1 : decode cJ22_multiplyToLenCheck 1 = .ok (.ifCond .gt 4, 3) := dk_157 0 4 (dk_at dksJ22_multiplyToLenCheck_0 1 rfl rfl)
theorem dJ22_multiplyToLenCheck_4 : decode cJ22_multiplyToLenCheck 4 = .ok (.return_, 1) := dk_177 (dk_at dksJ22_multiplyToLenCheck_0 4 rfl rfl)
theorem dJ22_multiplyToLenCheck_5 : decode cJ22_multiplyToLenCheck 5 = .ok (.aload_n 0, 1) := dk_42 (dk_at dksJ22_multiplyToLenCheck_0 5 rfl rfl)
theorem dJ22_multiplyToLenCheck_6 : decode cJ22_multiplyToLenCheck 6 = .ok (.invokestatic 447, 3) := dk_184 1 191 (dk_at dksJ22_multiplyToLenCheck_0 6 rfl rfl)
theorem dJ22_multiplyToLenCheck_9 : decode cJ22_multiplyToLenCheck 9 = .ok (.pop, 1) := dk_87 (dk_at dksJ22_multiplyToLenCheck_0 9 rfl rfl)
theorem dJ22_multiplyToLenCheck_10 : decode cJ22_multiplyToLenCheck 10 = .ok (.iload_n 1, 1) := dk_27 (dk_at dksJ22_multiplyToLenCheck_0 10 rfl rfl)
theorem dJ22_multiplyToLenCheck_11 : decode cJ22_multiplyToLenCheck 11 = .ok (.aload_n 0, 1) := dk_42 (dk_at dksJ22_multiplyToLenCheck_0 11 rfl rfl)
theorem dJ22_multiplyToLenCheck_12 : decode cJ22_multiplyToLenCheck 12 = .ok (.arraylength, 1) := dk_190 (dk_at dksJ22_multiplyToLenCheck_0 12 rfl rfl)
theorem dJ22_multiplyToLenCheck_13 : decode cJ22_multiplyToLenCheck 13 = .ok (.if_icmp .le 14, 3) := dk_164 0 14 (dk_at dksJ22_multiplyToLenCheck_0 13 rfl rfl)
theorem dJ22_multiplyToLenCheck_16 : decode cJ22_multiplyToLenCheck 16 = .ok (.new 451, 3) := dk_187 1 195 (dk_at dksJ22_multiplyToLenCheck_0 16 rfl rfl)
theorem dJ22_multiplyToLenCheck_19 : decode cJ22_multiplyToLenCheck 19 = .ok (.dup, 1) := dk_89 (dk_at dksJ22_multiplyToLenCheck_0 19 rfl rfl)
theorem dJ22_multiplyToLenCheck_20 : decode cJ22_multiplyToLenCheck 20 = .ok (.iload_n 1, 1) := dk_27 (dk_at dksJ22_multiplyToLenCheck_0 20 rfl rfl)
theorem dJ22_multiplyToLenCheck_21 : decode cJ22_multiplyToLenCheck 21 = .ok (.iconst 1, 1) := dk_4 (dk_at dksJ22_multiplyToLenCheck_0 21 rfl rfl)
theorem dJ22_multiplyToLenCheck_22 : decode cJ22_multiplyToLenCheck 22 = .ok (.isub, 1) := dk_100 (dk_at dksJ22_multiplyToLenCheck_0 22 rfl rfl)
theorem dJ22_multiplyToLenCheck_23 : decode cJ22_multiplyToLenCheck 23 = .ok (.invokespecial 453, 3) := dk_183 1 197 (dk_at dksJ22_multiplyToLenCheck_1 0 rfl rfl)
theorem dJ22_multiplyToLenCheck_26 : decode cJ22_multiplyToLenCheck 26 = .ok (.athrow, 1) := dk_191 (dk_at dksJ22_multiplyToLenCheck_1 3 rfl rfl)
theorem dJ22_multiplyToLenCheck_27 : decode cJ22_multiplyToLenCheck 27 = .ok (.return_, 1) := dk_177 (dk_at dksJ22_multiplyToLenCheck_1 4 rfl rfl)
def dkwJ22_implMultiplyToLen_9 : List UInt8 := [167, 255, 160, 25, 4, 176]
abbrev dktJ22_implMultiplyToLen_9 : List UInt8 := dkwJ22_implMultiplyToLen_9 ++ []
def dkwJ22_implMultiplyToLen_8 : List UInt8 := [55, 7, 132, 10, 255, 132, 11, 255, 167, 255, 195, 25, 4, 21, 9, 22, 7, 136, 79, 132, 9, 255]
abbrev dktJ22_implMultiplyToLen_8 : List UInt8 := dkwJ22_implMultiplyToLen_8 ++ dktJ22_implMultiplyToLen_9
def dkwJ22_implMultiplyToLen_7 : List UInt8 := [133, 20, 0, 130, 127, 97, 22, 7, 97, 55, 12, 25, 4, 21, 11, 22, 12, 136, 79, 22, 12, 16, 32, 125]
abbrev dktJ22_implMultiplyToLen_7 : List UInt8 := dkwJ22_implMultiplyToLen_7 ++ dktJ22_implMultiplyToLen_8
def dkwJ22_implMultiplyToLen_6 : List UInt8 := [44, 21, 10, 46, 133, 20, 0, 130, 127, 42, 21, 9, 46, 133, 20, 0, 130, 127, 105, 25, 4, 21, 11, 46]
abbrev dktJ22_implMultiplyToLen_6 : List UInt8 := dkwJ22_implMultiplyToLen_6 ++ dktJ22_implMultiplyToLen_7
def dkwJ22_implMultiplyToLen_5 : List UInt8 := [155, 0, 97, 9, 55, 7, 21, 6, 54, 10, 21, 6, 4, 96, 21, 9, 96, 54, 11, 21, 10, 155, 0, 62]
abbrev dktJ22_implMultiplyToLen_5 : List UInt8 := dkwJ22_implMultiplyToLen_5 ++ dktJ22_implMultiplyToLen_6
def dkwJ22_implMultiplyToLen_4 : List UInt8 := [132, 10, 255, 167, 255, 206, 25, 4, 21, 5, 22, 7, 136, 79, 21, 5, 4, 100, 54, 9, 21, 9]
abbrev dktJ22_implMultiplyToLen_4 : List UInt8 := dkwJ22_implMultiplyToLen_4 ++ dktJ22_implMultiplyToLen_5
def dkwJ22_implMultiplyToLen_3 : List UInt8 := [22, 7, 97, 55, 11, 25, 4, 21, 10, 22, 11, 136, 79, 22, 11, 16, 32, 125, 55, 7, 132, 9, 255]
abbrev dktJ22_implMultiplyToLen_3 : List UInt8 := dkwJ22_implMultiplyToLen_3 ++ dktJ22_implMultiplyToLen_4
def dkwJ22_implMultiplyToLen_2 : List UInt8 := [21, 9, 155, 0, 51, 44, 21, 9, 46, 133, 20, 0, 130, 127, 42, 21, 5, 46, 133, 20, 0, 130, 127, 105]
abbrev dktJ22_implMultiplyToLen_2 : List UInt8 := dkwJ22_implMultiplyToLen_2 ++ dktJ22_implMultiplyToLen_3
def dkwJ22_implMultiplyToLen_1 : List UInt8 := [27, 29, 96, 188, 10, 58, 4, 9, 55, 7, 21, 6, 54, 9, 21, 6, 4, 96, 21, 5, 96, 54, 10]
abbrev dktJ22_implMultiplyToLen_1 : List UInt8 := dkwJ22_implMultiplyToLen_1 ++ dktJ22_implMultiplyToLen_2
def dkwJ22_implMultiplyToLen_0 : List UInt8 := [27, 4, 100, 54, 5, 29, 4, 100, 54, 6, 25, 4, 198, 0, 12, 25, 4, 190, 27, 29, 96, 162, 0, 10]
abbrev dktJ22_implMultiplyToLen_0 : List UInt8 := dkwJ22_implMultiplyToLen_0 ++ dktJ22_implMultiplyToLen_1
theorem dksJ22_implMultiplyToLen_0 : cJ22_implMultiplyToLen.data.toList.drop 0 = dktJ22_implMultiplyToLen_0 := by decide +kernel
theorem dksJ22_implMultiplyToLen_1 : cJ22_implMultiplyToLen.data.toList.drop 24 = dktJ22_implMultiplyToLen_1 := dk_seg dksJ22_implMultiplyToLen_0 24 rfl rfl
theorem dksJ22_implMultiplyToLen_2 : cJ22_implMultiplyToLen.data.toList.drop 47 = dktJ22_implMultiplyToLen_2 := dk_seg dksJ22_implMultiplyToLen_1 23 rfl rfl
theorem dksJ22_implMultiplyToLen_3 : cJ22_implMultiplyToLen.data.toList.drop 71 = dktJ22_implMultiplyToLen_3 := dk_seg dksJ22_implMultiplyToLen_2 24 rfl rfl
theorem dksJ22_implMultiplyToLen_4 : cJ22_implMultiplyToLen.data.toList.drop 94 = dktJ22_implMultiplyToLen_4 := dk_seg dksJ22_implMultiplyToLen_3 23 rfl rfl
theorem dksJ22_implMultiplyToLen_5 : cJ22_implMultiplyToLen.data.toList.drop 116 = dktJ22_implMultiplyToLen_5 := dk_seg dksJ22_implMultiplyToLen_4 22 rfl rfl
theorem dksJ22_implMultiplyToLen_6 : cJ22_implMultiplyToLen.data.toList.drop 140 = dktJ22_implMultiplyToLen_6 := dk_seg dksJ22_implMultiplyToLen_5 24 rfl rfl
theorem dksJ22_implMultiplyToLen_7 : cJ22_implMultiplyToLen.data.toList.drop 164 = dktJ22_implMultiplyToLen_7 := dk_seg dksJ22_implMultiplyToLen_6 24 rfl rfl
theorem dksJ22_implMultiplyToLen_8 : cJ22_implMultiplyToLen.data.toList.drop 188 = dktJ22_implMultiplyToLen_8 := dk_seg dksJ22_implMultiplyToLen_7 24 rfl rfl
theorem dksJ22_implMultiplyToLen_9 : cJ22_implMultiplyToLen.data.toList.drop 210 = dktJ22_implMultiplyToLen_9 := dk_seg dksJ22_implMultiplyToLen_8 22 rfl rfl
theorem dJ22_implMultiplyToLen_0 : decode cJ22_implMultiplyToLen 0 = .ok (.iload_n 1, 1) := dk_27 (dk_at dksJ22_implMultiplyToLen_0 0 rfl rfl)
theorem dJ22_implMultiplyToLen_1 : decode cJ22_implMultiplyToLen 1 = .ok (.iconst 1, 1) := dk_4 (dk_at dksJ22_implMultiplyToLen_0 1 rfl rfl)
theorem dJ22_implMultiplyToLen_2 : decode cJ22_implMultiplyToLen 2 = .ok (.isub, 1) := dk_100 (dk_at dksJ22_implMultiplyToLen_0 2 rfl rfl)
theorem dJ22_implMultiplyToLen_3 : decode cJ22_implMultiplyToLen 3 = .ok (.istore 5, 2) := dk_54 5 (dk_at dksJ22_implMultiplyToLen_0 3 rfl rfl)
theorem dJ22_implMultiplyToLen_5 : decode cJ22_implMultiplyToLen 5 = .ok (.iload_n 3, 1) := dk_29 (dk_at dksJ22_implMultiplyToLen_0 5 rfl rfl)
theorem dJ22_implMultiplyToLen_6 : decode cJ22_implMultiplyToLen 6 = .ok (.iconst 1, 1) := dk_4 (dk_at dksJ22_implMultiplyToLen_0 6 rfl rfl)
theorem dJ22_implMultiplyToLen_7 : decode cJ22_implMultiplyToLen 7 = .ok (.isub, 1) := dk_100 (dk_at dksJ22_implMultiplyToLen_0 7 rfl rfl)
theorem dJ22_implMultiplyToLen_8 : decode cJ22_implMultiplyToLen 8 = .ok (.istore 6, 2) := dk_54 6 (dk_at dksJ22_implMultiplyToLen_0 8 rfl rfl)
theorem dJ22_implMultiplyToLen_10 : decode cJ22_implMultiplyToLen 10 = .ok (.aload 4, 2) := dk_25 4 (dk_at dksJ22_implMultiplyToLen_0 10 rfl rfl)
theorem dJ22_implMultiplyToLen_12 : decode cJ22_implMultiplyToLen 12 = .ok (.ifnull 12, 3) := dk_198 0 12 (dk_at dksJ22_implMultiplyToLen_0 12 rfl rfl)
theorem dJ22_implMultiplyToLen_15 : decode cJ22_implMultiplyToLen 15 = .ok (.aload 4, 2) := dk_25 4 (dk_at dksJ22_implMultiplyToLen_0 15 rfl rfl)
theorem dJ22_implMultiplyToLen_17 : decode cJ22_implMultiplyToLen 17 = .ok (.arraylength, 1) := dk_190 (dk_at dksJ22_implMultiplyToLen_0 17 rfl rfl)
theorem dJ22_implMultiplyToLen_18 : decode cJ22_implMultiplyToLen 18 = .ok (.iload_n 1, 1) := dk_27 (dk_at dksJ22_implMultiplyToLen_0 18 rfl rfl)
theorem dJ22_implMultiplyToLen_19 : decode cJ22_implMultiplyToLen 19 = .ok (.iload_n 3, 1) := dk_29 (dk_at dksJ22_implMultiplyToLen_0 19 rfl rfl)
theorem dJ22_implMultiplyToLen_20 : decode cJ22_implMultiplyToLen 20 = .ok (.iadd, 1) := dk_96 (dk_at dksJ22_implMultiplyToLen_0 20 rfl rfl)
theorem dJ22_implMultiplyToLen_21 : decode cJ22_implMultiplyToLen 21 = .ok (.if_icmp .ge 10, 3) := dk_162 0 10 (dk_at dksJ22_implMultiplyToLen_0 21 rfl rfl)
theorem dJ22_implMultiplyToLen_24 : decode cJ22_implMultiplyToLen 24 = .ok (.iload_n 1, 1) := dk_27 (dk_at dksJ22_implMultiplyToLen_1 0 rfl rfl)
theorem dJ22_implMultiplyToLen_25 : decode cJ22_implMultiplyToLen 25 = .ok (.iload_n 3, 1) := dk_29 (dk_at dksJ22_implMultiplyToLen_1 1 rfl rfl)
theorem dJ22_implMultiplyToLen_26 : decode cJ22_implMultiplyToLen 26 = .ok (.iadd, 1) := dk_96 (dk_at dksJ22_implMultiplyToLen_1 2 rfl rfl)
theorem dJ22_implMultiplyToLen_27 : decode cJ22_implMultiplyToLen 27 = .ok (.newarray .int, 2) := dk_188_10 (dk_at dksJ22_implMultiplyToLen_1 3 rfl rfl)
theorem dJ22_implMultiplyToLen_29 : decode cJ22_implMultiplyToLen 29 = .ok (.astore 4, 2) := dk_58 4 (dk_at dksJ22_implMultiplyToLen_1 5 rfl rfl)
theorem dJ22_implMultiplyToLen_31 : decode cJ22_implMultiplyToLen 31 = .ok (.lconst 0, 1) := dk_9 (dk_at dksJ22_implMultiplyToLen_1 7 rfl rfl)
theorem dJ22_implMultiplyToLen_32 : decode cJ22_implMultiplyToLen 32 = .ok (.lstore 7, 2) := dk_55 7 (dk_at dksJ22_implMultiplyToLen_1 8 rfl rfl)
theorem dJ22_implMultiplyToLen_34 : decode cJ22_implMultiplyToLen 34 = .ok (.iload 6, 2) := dk_21 6 (dk_at dksJ22_implMultiplyToLen_1 10 rfl rfl)
theorem dJ22_implMultiplyToLen_36 : decode cJ22_implMultiplyToLen 36 = .ok (.istore 9, 2) := dk_54 9 (dk_at dksJ22_implMultiplyToLen_1 12 rfl rfl)
theorem dJ22_implMultiplyToLen_38 : decode cJ22_implMultiplyToLen 38 = .ok (.iload 6, 2) := dk_21 6 (dk_at dksJ22_implMultiplyToLen_1 14 rfl rfl)
theorem dJ22_implMultiplyToLen_40 : decode cJ22_implMultiplyToLen 40 = .ok (.iconst 1, 1) := dk_4 (dk_at dksJ22_implMultiplyToLen_1 16 rfl rfl)
theorem dJ22_implMultiplyToLen_41 : decode cJ22_implMultiplyToLen 41 = .ok (.iadd, 1) := dk_96 (dk_at dksJ22_implMultiplyToLen_1 17 rfl rfl)
theorem dJ22_implMultiplyToLen_42 : decode cJ22_implMultiplyToLen 42 = .ok (.iload 5, 2) := dk_21 5 (dk_at dksJ22_implMultiplyToLen_1 18 rfl rfl)
theorem dJ22_implMultiplyToLen_44 : decode cJ22_implMultiplyToLen 44 = .ok (.iadd, 1) := dk_96 (dk_at dksJ22_implMultiplyToLen_1 20 rfl rfl)
theorem dJ22_implMultiplyToLen_45 : decode cJ22_implMultiplyToLen 45 = .ok (.istore 10, 2) := dk_54 10 (dk_at dksJ22_implMultiplyToLen_1 21 rfl rfl)
theorem dJ22_implMultiplyToLen_47 : decode cJ22_implMultiplyToLen 47 = .ok (.iload 9, 2) := dk_21 9 (dk_at dksJ22_implMultiplyToLen_2 0 rfl rfl)
theorem dJ22_implMultiplyToLen_49 : decode cJ22_implMultiplyToLen 49 = .ok (.ifCond .lt 51, 3) := dk_155 0 51 (dk_at dksJ22_implMultiplyToLen_2 2 rfl rfl)
theorem dJ22_implMultiplyToLen_52 : decode cJ22_implMultiplyToLen 52 = .ok (.aload_n 2, 1) := dk_44 (dk_at dksJ22_implMultiplyToLen_2 5 rfl rfl)
theorem dJ22_implMultiplyToLen_53 : decode cJ22_implMultiplyToLen 53 = .ok (.iload 9, 2) := dk_21 9 (dk_at dksJ22_implMultiplyToLen_2 6 rfl rfl)
theorem dJ22_implMultiplyToLen_55 : decode cJ22_implMultiplyToLen 55 = .ok (.iaload, 1) := dk_46 (dk_at dksJ22_implMultiplyToLen_2 8 rfl rfl)
theorem dJ22_implMultiplyToLen_56 : decode cJ22_implMultiplyToLen 56 = .ok (.i2l, 1) := dk_133 (dk_at dksJ22_implMultiplyToLen_2 9 rfl rfl)
theorem dJ22_implMultiplyToLen_57 : decode cJ22_implMultiplyToLen 57 = .ok (.ldc2_w 130, 3) := dk_20 0 130 (dk_at dksJ22_implMultiplyToLen_2 10 rfl rfl)
theorem dJ22_implMultiplyToLen_60 : decode cJ22_implMultiplyToLen 60 = .ok (.land, 1) := dk_127 (dk_at dksJ22_implMultiplyToLen_2 13 rfl rfl)
theorem dJ22_implMultiplyToLen_61 : decode cJ22_implMultiplyToLen 61 = .ok (.aload_n 0, 1) := dk_42 (dk_at dksJ22_implMultiplyToLen_2 14 rfl rfl)
theorem dJ22_implMultiplyToLen_62 : decode cJ22_implMultiplyToLen 62 = .ok (.iload 5, 2) := dk_21 5 (dk_at dksJ22_implMultiplyToLen_2 15 rfl rfl)
theorem dJ22_implMultiplyToLen_64 : decode cJ22_implMultiplyToLen 64 = .ok (.iaload, 1) := dk_46 (dk_at dksJ22_implMultiplyToLen_2 17 rfl rfl)
theorem dJ22_implMultiplyToLen_65 : decode cJ22_implMultiplyToLen 65 = .ok (.i2l, 1) := dk_133 (dk_at dksJ22_implMultiplyToLen_2 18 rfl rfl)
theorem dJ22_implMultiplyToLen_66 : decode cJ22_implMultiplyToLen 66 = .ok (.ldc2_w 130, 3) := dk_20 0 130 (dk_at dksJ22_implMultiplyToLen_2 19 rfl rfl)
theorem dJ22_implMultiplyToLen_69 : decode cJ22_implMultiplyToLen 69 = .ok (.land, 1) := dk_127 (dk_at dksJ22_implMultiplyToLen_2 22 rfl rfl)
theorem dJ22_implMultiplyToLen_70 : decode cJ22_implMultiplyToLen 70 = .ok (.lmul, 1) := dk_105 (dk_at dksJ22_implMultiplyToLen_2 23 rfl rfl)
theorem dJ22_implMultiplyToLen_71 : decode cJ22_implMultiplyToLen 71 = .ok (.lload 7, 2) := dk_22 7 (dk_at dksJ22_implMultiplyToLen_3 0 rfl rfl)
theorem dJ22_implMultiplyToLen_73 : decode cJ22_implMultiplyToLen 73 = .ok (.ladd, 1) := dk_97 (dk_at dksJ22_implMultiplyToLen_3 2 rfl rfl)
theorem dJ22_implMultiplyToLen_74 : decode cJ22_implMultiplyToLen 74 = .ok (.lstore 11, 2) := dk_55 11 (dk_at dksJ22_implMultiplyToLen_3 3 rfl rfl)
theorem dJ22_implMultiplyToLen_76 : decode cJ22_implMultiplyToLen 76 = .ok (.aload 4, 2) := dk_25 4 (dk_at dksJ22_implMultiplyToLen_3 5 rfl rfl)
theorem dJ22_implMultiplyToLen_78 : decode cJ22_implMultiplyToLen 78 = .ok (.iload 10, 2) := dk_21 10 (dk_at dksJ22_implMultiplyToLen_3 7 rfl rfl)
theorem dJ22_implMultiplyToLen_80 : decode cJ22_implMultiplyToLen 80 = .ok (.lload 11, 2) := dk_22 11 (dk_at dksJ22_implMultiplyToLen_3 9 rfl rfl)
theorem dJ22_implMultiplyToLen_82 : decode cJ22_implMultiplyToLen 82 = .ok (.l2i, 1) := dk_136 (dk_at dksJ22_implMultiplyToLen_3 11 rfl rfl)
theorem dJ22_implMultiplyToLen_83 : decode cJ22_implMultiplyToLen 83 = .ok (.iastore, 1) := dk_79 (dk_at dksJ22_implMultiplyToLen_3 12 rfl rfl)
theorem dJ22_implMultiplyToLen_84 : decode cJ22_implMultiplyToLen 84 = .ok (.lload 11, 2) := dk_22 11 (dk_at dksJ22_implMultiplyToLen_3 13 rfl rfl)
theorem dJ22_implMultiplyToLen_86 : decode cJ22_implMultiplyToLen 86 = .ok (.bipush 32, 2) := dk_16 32 (dk_at dksJ22_implMultiplyToLen_3 15 rfl rfl)
theorem dJ22_implMultiplyToLen_88 : decode cJ22_implMultiplyToLen 88 = .ok (.lushr, 1) := dk_125 (dk_at dksJ22_implMultiplyToLen_3 17 rfl rfl)
theorem dJ22_implMultiplyToLen_89 : decode cJ22_implMultiplyToLen 89 = .ok (.lstore 7, 2) := dk_55 7 (dk_at dksJ22_implMultiplyToLen_3 18 rfl rfl)
theorem dJ22_implMultiplyToLen_91 : decode cJ22_implMultiplyToLen 91 = .ok (.iinc 9 (-1), 3) := dk_132 9 255 (dk_at dksJ22_implMultiplyToLen_3 20 rfl rfl)
theorem dJ22_implMultiplyToLen_94 : decode cJ22_implMultiplyToLen 94 = .ok (.iinc 10 (-1), 3) := dk_132 10 255 (dk_at dksJ22_implMultiplyToLen_4 0 rfl rfl)
theorem dJ22_implMultiplyToLen_97 : decode cJ22_implMultiplyToLen 97 = .ok (.goto (-50), 3) := dk_167 255 206 (dk_at dksJ22_implMultiplyToLen_4 3 rfl rfl)
theorem dJ22_implMultiplyToLen_100 : decode cJ22_implMultiplyToLen 100 = .ok (.aload 4, 2) := dk_25 4 (dk_at dksJ22_implMultiplyToLen_4 6 rfl rfl)
theorem dJ22_implMultiplyToLen_102 : decode cJ22_implMultiplyToLen 102 = .ok (.iload 5, 2) := dk_21 5 (dk_at dksJ22_implMultiplyToLen_4 8 rfl rfl)
theorem dJ22_implMultiplyToLen_104 : decode cJ22_implMultiplyToLen 104 = .ok (.lload 7, 2) := dk_22 7 (dk_at dksJ22_implMultiplyToLen_4 10 rfl rfl)
theorem dJ22_implMultiplyToLen_106 : decode cJ22_implMultiplyToLen 106 = .ok (.l2i, 1) := dk_136 (dk_at dksJ22_implMultiplyToLen_4 12 rfl rfl)
theorem dJ22_implMultiplyToLen_107 : decode cJ22_implMultiplyToLen 107 = .ok (.iastore, 1) := dk_79 (dk_at dksJ22_implMultiplyToLen_4 13 rfl rfl)
theorem dJ22_implMultiplyToLen_108 : decode cJ22_implMultiplyToLen 108 = .ok (.iload 5, 2) := dk_21 5 (dk_at dksJ22_implMultiplyToLen_4 14 rfl rfl)
theorem dJ22_implMultiplyToLen_110 : decode cJ22_implMultiplyToLen 110 = .ok (.iconst 1, 1) := dk_4 (dk_at dksJ22_implMultiplyToLen_4 16 rfl rfl)
theorem dJ22_implMultiplyToLen_111 : decode cJ22_implMultiplyToLen 111 = .ok (.isub, 1) := dk_100 (dk_at dksJ22_implMultiplyToLen_4 17 rfl rfl)
theorem dJ22_implMultiplyToLen_112 : decode cJ22_implMultiplyToLen 112 = .ok (.istore 9, 2) := dk_54 9 (dk_at dksJ22_implMultiplyToLen_4 18 rfl rfl)
theorem dJ22_implMultiplyToLen_114 : decode cJ22_implMultiplyToLen 114 = .ok (.iload 9, 2) := dk_21 9 (dk_at dksJ22_implMultiplyToLen_4 20 rfl rfl)
theorem dJ22_implMultiplyToLen_116 : decode cJ22_implMultiplyToLen 116 = .ok (.ifCond .lt 97, 3) := dk_155 0 97 (dk_at dksJ22_implMultiplyToLen_5 0 rfl rfl)
theorem dJ22_implMultiplyToLen_119 : decode cJ22_implMultiplyToLen 119 = .ok (.lconst 0, 1) := dk_9 (dk_at dksJ22_implMultiplyToLen_5 3 rfl rfl)
theorem dJ22_implMultiplyToLen_120 : decode cJ22_implMultiplyToLen 120 = .ok (.lstore 7, 2) := dk_55 7 (dk_at dksJ22_implMultiplyToLen_5 4 rfl rfl)
theorem dJ22_implMultiplyToLen_122 : decode cJ22_implMultiplyToLen 122 = .ok (.iload 6, 2) := dk_21 6 (dk_at dksJ22_implMultiplyToLen_5 6 rfl rfl)
theorem dJ22_implMultiplyToLen_124 : decode cJ22_implMultiplyToLen 124 = .ok (.istore 10, 2) := dk_54 10 (dk_at dksJ22_implMultiplyToLen_5 8 rfl rfl)
theorem dJ22_implMultiplyToLen_126 : decode cJ22_implMultiplyToLen 126 = .ok (.iload 6, 2) := dk_21 6 (dk_at dksJ22_implMultiplyToLen_5 10 rfl rfl)
theorem dJ22_implMultiplyToLen_128 : decode cJ22_implMultiplyToLen 128 = .ok (.iconst 1, 1) := dk_4 (dk_at dksJ22_implMultiplyToLen_5 12 rfl rfl)
theorem dJ22_implMultiplyToLen_129 : decode cJ22_implMultiplyToLen 129 = .ok (.iadd, 1) := dk_96 (dk_at dksJ22_implMultiplyToLen_5 13 rfl rfl)
theorem dJ22_implMultiplyToLen_130 : decode cJ22_implMultiplyToLen 130 = .ok (.iload 9, 2) := dk_21 9 (dk_at dksJ22_implMultiplyToLen_5 14 rfl rfl)
theorem dJ22_implMultiplyToLen_132 : decode cJ22_implMultiplyToLen 132 = .ok (.iadd, 1) := dk_96 (dk_at dksJ22_implMultiplyToLen_5 16 rfl rfl)
theorem dJ22_implMultiplyToLen_133 : decode cJ22_implMultiplyToLen 133 = .ok (.istore 11, 2) := dk_54 11 (dk_at dksJ22_implMultiplyToLen_5 17 rfl rfl)
theorem dJ22_implMultiplyToLen_135 : decode cJ22_implMultiplyToLen 135 = .ok (.iload 10, 2) := dk_21 10 (dk_at dksJ22_implMultiplyToLen_5 19 rfl rfl)
theorem dJ22_implMultiplyToLen_137 : decode cJ22_implMultiplyToLen 137 = .ok (.ifCond .lt 62, 3) := dk_155 0 62 (dk_at dksJ22_implMultiplyToLen_5 21 rfl rfl)
theorem dJ22_implMultiplyToLen_140 : decode cJ22_implMultiplyToLen 140 = .ok (.aload_n 2, 1) := dk_44 (dk_at dksJ22_implMultiplyToLen_6 0 rfl rfl)
theorem dJ22_implMultiplyToLen_141 : decode cJ22_implMultiplyToLen 141 = .ok (.iload 10, 2) := dk_21 10 (dk_at dksJ22_implMultiplyToLen_6 1 rfl rfl)
theorem dJ22_implMultiplyToLen_143 : decode cJ22_implMultiplyToLen 143 = .ok (.iaload, 1) := dk_46 (dk_at dksJ22_implMultiplyToLen_6 3 rfl rfl)
theorem dJ22_implMultiplyToLen_144 : decode cJ22_implMultiplyToLen 144 = .ok (.i2l, 1) := dk_133 (dk_at dksJ22_implMultiplyToLen_6 4 rfl rfl)
theorem dJ22_implMultiplyToLen_145 : decode cJ22_implMultiplyToLen 145 = .ok (.ldc2_w 130, 3) := dk_20 0 130 (dk_at dksJ22_implMultiplyToLen_6 5 rfl rfl)
theorem dJ22_implMultiplyToLen_148 : decode cJ22_implMultiplyToLen 148 = .ok (.land, 1) := dk_127 (dk_at dksJ22_implMultiplyToLen_6 8 rfl rfl)
theorem dJ22_implMultiplyToLen_149 : decode cJ22_implMultiplyToLen 149 = .ok (.aload_n 0, 1) := dk_42 (dk_at dksJ22_implMultiplyToLen_6 9 rfl rfl)
theorem dJ22_implMultiplyToLen_150 : decode cJ22_implMultiplyToLen 150 = .ok (.iload 9, 2) := dk_21 9 (dk_at dksJ22_implMultiplyToLen_6 10 rfl rfl)
theorem dJ22_implMultiplyToLen_152 : decode cJ22_implMultiplyToLen 152 = .ok (.iaload, 1) := dk_46 (dk_at dksJ22_implMultiplyToLen_6 12 rfl rfl)
theorem dJ22_implMultiplyToLen_153 : decode cJ22_implMultiplyToLen 153 = .ok (.i2l, 1) := dk_133 (dk_at dksJ22_implMultiplyToLen_6 13 rfl rfl)
theorem dJ22_implMultiplyToLen_154 : decode cJ22_implMultiplyToLen 154 = .ok (.ldc2_w 130, 3) := dk_20 0 130 (dk_at dksJ22_implMultiplyToLen_6 14 rfl rfl)
theorem dJ22_implMultiplyToLen_157 : decode cJ22_implMultiplyToLen 157 = .ok (.land, 1) := dk_127 (dk_at dksJ22_implMultiplyToLen_6 17 rfl rfl)
theorem dJ22_implMultiplyToLen_158 : decode cJ22_implMultiplyToLen 158 = .ok (.lmul, 1) := dk_105 (dk_at dksJ22_implMultiplyToLen_6 18 rfl rfl)
theorem dJ22_implMultiplyToLen_159 : decode cJ22_implMultiplyToLen 159 = .ok (.aload 4, 2) := dk_25 4 (dk_at dksJ22_implMultiplyToLen_6 19 rfl rfl)
theorem dJ22_implMultiplyToLen_161 : decode cJ22_implMultiplyToLen 161 = .ok (.iload 11, 2) := dk_21 11 (dk_at dksJ22_implMultiplyToLen_6 21 rfl rfl)
theorem dJ22_implMultiplyToLen_163 : decode cJ22_implMultiplyToLen 163 = .ok (.iaload, 1) := dk_46 (dk_at dksJ22_implMultiplyToLen_6 23 rfl rfl)
theorem dJ22_implMultiplyToLen_164 : decode cJ22_implMultiplyToLen 164 = .ok (.i2l, 1) := dk_133 (dk_at dksJ22_implMultiplyToLen_7 0 rfl rfl)
theorem dJ22_implMultiplyToLen_165 : decode cJ22_implMultiplyToLen 165 = .ok (.ldc2_w 130, 3) := dk_20 0 130 (dk_at dksJ22_implMultiplyToLen_7 1 rfl rfl)
theorem dJ22_implMultiplyToLen_168 : decode cJ22_implMultiplyToLen 168 = .ok (.land, 1) := dk_127 (dk_at dksJ22_implMultiplyToLen_7 4 rfl rfl)
theorem dJ22_implMultiplyToLen_169 : decode cJ22_implMultiplyToLen 169 = .ok (.ladd, 1) := dk_97 (dk_at dksJ22_implMultiplyToLen_7 5 rfl rfl)
theorem dJ22_implMultiplyToLen_170 : decode cJ22_implMultiplyToLen 170 = .ok (.lload 7, 2) := dk_22 7 (dk_at dksJ22_implMultiplyToLen_7 6 rfl rfl)
theorem dJ22_implMultiplyToLen_172 : decode cJ22_implMultiplyToLen 172 = .ok (.ladd, 1) := dk_97 (dk_at dksJ22_implMultiplyToLen_7 8 rfl rfl)
theorem dJ22_implMultiplyToLen_173 : decode cJ22_implMultiplyToLen 173 = .ok (.lstore 12, 2) := dk_55 12 (dk_at dksJ22_implMultiplyToLen_7 9 rfl rfl)
theorem dJ22_implMultiplyToLen_175 : decode cJ22_implMultiplyToLen 175 = .ok (.aload 4, 2) := dk_25 4 (dk_at dksJ22_implMultiplyToLen_7 11 rfl rfl)
theorem dJ22_implMultiplyToLen_177 : decode cJ22_implMultiplyToLen 177 = .ok (.iload 11, 2) := dk_21 11 (dk_at dksJ22_implMultiplyToLen_7 13 rfl rfl)
theorem dJ22_implMultiplyToLen_179 : decode cJ22_implMultiplyToLen 179 = .ok (.lload 12, 2) := dk_22 12 (dk_at dksJ22_implMultiplyToLen_7 15 rfl rfl)
theorem dJ22_implMultiplyToLen_181 : decode cJ22_implMultiplyToLen 181 = .ok (.l2i, 1) := dk_136 (dk_at dksJ22_implMultiplyToLen_7 17 rfl rfl)
theorem dJ22_implMultiplyToLen_182 : decode cJ22_implMultiplyToLen 182 = .ok (.iastore, 1) := dk_79 (dk_at dksJ22_implMultiplyToLen_7 18 rfl rfl)
theorem dJ22_implMultiplyToLen_183 : decode cJ22_implMultiplyToLen 183 = .ok (.lload 12, 2) := dk_22 12 (dk_at dksJ22_implMultiplyToLen_7 19 rfl rfl)
theorem dJ22_implMultiplyToLen_185 : decode cJ22_implMultiplyToLen 185 = .ok (.bipush 32, 2) := dk_16 32 (dk_at dksJ22_implMultiplyToLen_7 21 rfl rfl)
theorem dJ22_implMultiplyToLen_187 : decode cJ22_implMultiplyToLen 187 = .ok (.lushr, 1) := dk_125 (dk_at dksJ22_implMultiplyToLen_7 23 rfl rfl)
theorem dJ22_implMultiplyToLen_188 : decode cJ22_implMultiplyToLen 188 = .ok (.lstore 7, 2) := dk_55 7 (dk_at dksJ22_implMultiplyToLen_8 0 rfl rfl)
theorem dJ22_implMultiplyToLen_190 : decode cJ22_implMultiplyToLen 190 = .ok (.iinc 10 (-1), 3) := dk_132 10 255 (dk_at dksJ22_implMultiplyToLen_8 2 rfl rfl)
theorem dJ22_implMultiplyToLen_193 : decode cJ22_implMultiplyToLen 193 = .ok (.iinc 11 (-1), 3) := dk_132 11 255 (dk_at dksJ22_implMultiplyToLen_8 5 rfl rfl)
theorem dJ22_implMultiplyToLen_196 : decode cJ22_implMultiplyToLen 196 = .ok (.goto (-61), 3) := dk_167 255 195 (dk_at dksJ22_implMultiplyToLen_8 8 rfl rfl)
theorem dJ22_implMultiplyToLen_199 : decode cJ22_implMultiplyToLen 199 = .ok (.aload 4, 2) := dk_25 4 (dk_at dksJ22_implMultiplyToLen_8 11 rfl rfl)
theorem dJ22_implMultiplyToLen_201 : decode cJ22_implMultiplyToLen 201 = .ok (.iload 9, 2) := dk_21 9 (dk_at dksJ22_implMultiplyToLen_8 13 rfl rfl)
theorem dJ22_implMultiplyToLen_203 : decode cJ22_implMultiplyToLen 203 = .ok (.lload 7, 2) := dk_22 7 (dk_at dksJ22_implMultiplyToLen_8 15 rfl rfl)
theorem dJ22_implMultiplyToLen_205 : decode cJ22_implMultiplyToLen 205 = .ok (.l2i, 1) := dk_136 (dk_at dksJ22_implMultiplyToLen_8 17 rfl rfl)
theorem dJ22_implMultiplyToLen_206 : decode cJ22_implMultiplyToLen 206 = .ok (.iastore, 1) := dk_79 (dk_at dksJ22_implMultiplyToLen_8 18 rfl rfl)
theorem dJ22_implMultiplyToLen_207 : decode cJ22_implMultiplyToLen 207 = .ok (.iinc 9 (-1), 3) := dk_132 9 255 (dk_at dksJ22_implMultiplyToLen_8 19 rfl rfl)
theorem dJ22_implMultiplyToLen_210 : decode cJ22_implMultiplyToLen 210 = .ok (.goto (-96), 3) := dk_167 255 160 (dk_at dksJ22_implMultiplyToLen_9 0 rfl rfl)
theorem dJ22_implMultiplyToLen_213 : decode cJ22_implMultiplyToLen 213 = .ok (.aload 4, 2) := dk_25 4 (dk_at dksJ22_implMultiplyToLen_9 3 rfl rfl)
theorem dJ22_implMultiplyToLen_215 : decode cJ22_implMultiplyToLen 215 = .ok (.areturn, 1) := dk_176 (dk_at dksJ22_implMultiplyToLen_9 5 rfl rfl)
def dkwJ22_multiplyToLen_0 : List UInt8 := [42, 27, 184, 1, 185, 44, 29, 184, 1, 185, 42, 27, 44, 29, 25, 4, 184, 1, 188, 176]
abbrev dktJ22_multiplyToLen_0 : List UInt8 := dkwJ22_multiplyToLen_0 ++ []
theorem dksJ22_multiplyToLen_0 : cJ22_multiplyToLen.data.toList.drop 0 = dktJ22_multiplyToLen_0 := by decide +kernel
theorem dJ22_multiplyToLen_0 : decode cJ22_multiplyToLen 0 = .ok (.aload_n 0, 1) := dk_42 (dk_at dksJ22_multiplyToLen_0 0 rfl rfl)
theorem dJ22_multiplyToLen_1 : decode cJ22_multiplyToLen 1 = .ok (.iload_n 1, 1) := dk_27 (dk_at dksJ22_multiplyToLen_0 1 rfl rfl)
theorem dJ22_multiplyToLen_2 : decode cJ22_multiplyToLen 2 = .ok (.invokestatic 441, 3) := dk_184 1 185 (dk_at dksJ22_multiplyToLen_0 2 rfl rfl)
theorem dJ22_multiplyToLen_5 : decode cJ22_multiplyToLen 5 = .ok (.aload_n 2, 1) := dk_44 (dk_at dksJ22_multiplyToLen_0 5 rfl rfl)
theorem dJ22_multiplyToLen_6 : decode cJ22_multiplyToLen 6 = .ok (.iload_n 3, 1) := dk_29 (dk_at dksJ22_multiplyToLen_0 6 rfl rfl)
theorem dJ22_multiplyToLen_7 : decode cJ22_multiplyToLen 7 = .ok (.invokestatic 441, 3) := dk_184 1 185 (dk_at dksJ22_multiplyToLen_0 7 rfl rfl)
theorem dJ22_multiplyToLen_10 : decode cJ22_multiplyToLen 10 = .ok (.aload_n 0, 1) := dk_42 (dk_at dksJ22_multiplyToLen_0 10 rfl rfl)
theorem dJ22_multiplyToLen_11 : decode cJ22_multiplyToLen 11 = .ok (.iload_n 1, 1) := dk_27 (dk_at dksJ22_multiplyToLen_0 11 rfl rfl)
theorem dJ22_multiplyToLen_12 : decode cJ22_multiplyToLen 12 = .ok (.aload_n 2, 1) := dk_44 (dk_at dksJ22_multiplyToLen_0 12 rfl rfl)
theorem dJ22_multiplyToLen_13 : decode cJ22_multiplyToLen 13 = .ok (.iload_n 3, 1) := dk_29 (dk_at dksJ22_multiplyToLen_0 13 rfl rfl)
theorem dJ22_multiplyToLen_14 : decode cJ22_multiplyToLen 14 = .ok (.aload 4, 2) := dk_25 4 (dk_at dksJ22_multiplyToLen_0 14 rfl rfl)
theorem dJ22_multiplyToLen_16 : decode cJ22_multiplyToLen 16 = .ok (.invokestatic 444, 3) := dk_184 1 188 (dk_at dksJ22_multiplyToLen_0 16 rfl rfl)
theorem dJ22_multiplyToLen_19 : decode cJ22_multiplyToLen 19 = .ok (.areturn, 1) := dk_176 (dk_at dksJ22_multiplyToLen_0 19 rfl rfl)
theorem yd_J13_copyOfRangeInt : yJ13_copyOfRangeInt.cls ≠ "java/lang/invoke/MethodHandle" ∧ yJ13_copyOfRangeInt.cls ≠ "java/lang/invoke/VarHandle" ∧ (parseMethodDescriptor yJ13_copyOfRangeInt.desc).map (fun d => d.parameters.length) = some 3 := by decide +kernel
theorem yd_J13_copyOfRange_2 : yJ13_copyOfRange_2.cls ≠ "java/lang/invoke/MethodHandle" ∧ yJ13_copyOfRange_2.cls ≠ "java/lang/invoke/VarHandle" ∧ (parseMethodDescriptor yJ13_copyOfRange_2.desc).map (fun d => d.parameters.length) = some 3 := by decide +kernel
theorem yd_J22_implMultiplyToLen : yJ22_implMultiplyToLen.cls ≠ "java/lang/invoke/MethodHandle" ∧ yJ22_implMultiplyToLen.cls ≠ "java/lang/invoke/VarHandle" ∧ (parseMethodDescriptor yJ22_implMultiplyToLen.desc).map (fun d => d.parameters.length) = some 5 := by decide +kernel
theorem yd_J22_multiplyToLenCheck : yJ22_multiplyToLenCheck.cls ≠ "java/lang/invoke/MethodHandle" ∧ yJ22_multiplyToLenCheck.cls ≠ "java/lang/invoke/VarHandle" ∧ (parseMethodDescriptor yJ22_multiplyToLenCheck.desc).map (fun d => d.parameters.length) = some 2 := by decide +kernel
/-! ### digits multiplied -/
theorem mulA0 {e d2 : Nat → Nat} {b k k' o t P y : Nat} (hy : 1 ≤ y) (hP : P = d2 (y - 1) * b + k) (h : seg e (o + y) t + k * 4294967296 ^ t = b * seg d2 y t) (hk : k' = P / 4294967296) :
    seg (dup e (o + y - 1) (P % 4294967296)) (o + y - 1) (t + 1) + k' * 4294967296 ^ (t + 1) = b * seg d2 (y - 1) (t + 1) := by
  have e1 := mul_step (z := fun _ => 0) (z' := dup e (o + y - 1) (P % 4294967296)) (y := d2) (b := b) (k := k) (k' := k') (o := o + y - 1) (oy := y - 1) (t := t) (P := P) (by rw [hP]; rfl) ?_ dup_s hk
  · rw [seg_zero (d := fun _ => 0) (fun _ _ _ => rfl)] at e1
    rw [Nat.zero_add] at e1
    exact e1
  · rw [show o + y - 1 + 1 = o + y by omega, show y - 1 + 1 = y by omega, seg_cg (d := dup e (o + y - 1) (P % 4294967296)) (e := e) (fun i h1 h2 => dup_n (by omega)), seg_zero (d := fun _ => 0) (fun _ _ _ => rfl), h, Nat.zero_add]
theorem mulA {e g d2 : Nat → Nat} {b k k' o t P y : Nat} (hy : 1 ≤ y) (hP : P = d2 (y - 1) * b + e (o + y - 1) + k) (h : seg g (o + y) t + k * 4294967296 ^ t = seg e (o + y) t + b * seg d2 y t) (hk : k' = P / 4294967296) :
    seg (dup g (o + y - 1) (P % 4294967296)) (o + y - 1) (t + 1) + k' * 4294967296 ^ (t + 1) = seg e (o + y - 1) (t + 1) + b * seg d2 (y - 1) (t + 1) := by
  refine mul_step (z := e) (z' := dup g (o + y - 1) (P % 4294967296)) (y := d2) (b := b) (k := k) (k' := k') (o := o + y - 1) (oy := y - 1) (t := t) (P := P) hP ?_ dup_s hk
  rw [show o + y - 1 + 1 = o + y by omega, show y - 1 + 1 = y by omega, seg_cg (d := dup g (o + y - 1) (P % 4294967296)) (e := g) (fun i h1 h2 => dup_n (by omega)), h]
theorem mulO0 {e d d2 : Nat → Nat} {xl yl k : Nat} (hxl : 1 ≤ xl) (hk : k < 4294967296) (h : seg e xl yl + k * 4294967296 ^ yl = d (xl - 1) * seg d2 0 yl) : seg (dup e (xl - 1) (k % 4294967296)) (xl - 1) (xl + yl - (xl - 1)) = seg d (xl - 1) (xl - (xl - 1)) * val d2 yl := by
  rw [show xl + yl - (xl - 1) = yl + 1 by omega, show xl - (xl - 1) = 0 + 1 by omega, seg_l, seg_l, dup_s, Nat.mod_eq_of_lt hk, show xl - 1 + 1 = xl by omega, seg_cg (d := dup e (xl - 1) k) (e := e) (fun i h1 h2 => dup_n (by omega)), ← seg_0 d2 yl, seg_z]
  grind
theorem mulO {e g d d2 : Nat → Nat} {xl yl u k : Nat} (hu : 1 ≤ u) (hux : u ≤ xl - 1) (hk : k < 4294967296) (hg : ∀ i, (i < u ∨ u + yl ≤ i) → g i = e i) (h : seg g u yl + k * 4294967296 ^ yl = seg e u yl + d (u - 1) * seg d2 0 yl) (hv : seg e u (xl + yl - u) = seg d u (xl - u) * val d2 yl) :
    seg (dup g (u - 1) (k % 4294967296)) (u - 1) (xl + yl - (u - 1)) = seg d (u - 1) (xl - (u - 1)) * val d2 yl := by
  rw [show xl + yl - (u - 1) = (yl + (xl - u)) + 1 by omega, show xl - (u - 1) = (xl - u) + 1 by omega, seg_l, seg_l, dup_s, Nat.mod_eq_of_lt hk, show u - 1 + 1 = u by omega, seg_cg (d := dup g (u - 1) k) (e := g) (fun i h1 h2 => dup_n (by omega)), seg_app, seg_cg (d := g) (e := e) (o := u + yl) (fun i h1 h2 => hg i (Or.inr h1))]
  rw [show xl + yl - u = yl + (xl - u) by omega, seg_app] at hv
  rw [← seg_0 d2 yl] at *
  rw [Nat.pow_add]
  generalize seg g u yl = G at *
  generalize seg e u yl = E at *
  generalize seg e (u + yl) (xl - u) = E2 at *
  generalize seg d u (xl - u) = D at *
  generalize seg d2 0 yl = Y at *
  generalize 4294967296 ^ yl = Q at *
  generalize 4294967296 ^ (xl - u) = R at *
  grind

set_option maxHeartbeats 1000000 in
theorem m_copyRangeI6 (l : Launch) (z : State) (H0 : Heap) (b : Nat) (u v n : Nat) (w : Bool) (d : Nat → Nat) (hu : u ≤ v) (hv : v ≤ n) (hn : n < 134217728) (hb0 : gI z w .int H0 b n (dI d)) : Met l yJ13_copyOfRangeInt (ws_ yJ13_copyOfRangeInt cJ13_copyOfRangeInt 5 (some (.array .int))) { frames := 1, cells := 1, slots := (v - u), locals := 40 } (gPc z H0 [.ref b, .int (nI u), .int (nI v)]) (gRr (gfr H0) H0 (fun r H1 => H0.size ≤ r ∧ gI z true .int H1 r (v - u) (dI (fun i => d (u + i))))) 1 (v - u) (gfr H0) := by
  refine g_start (by decide +kernel) (Nat.le_of_ble_eq_true rfl) ?_
  intro p e s m below meth c ls hx hb hr hlocks hml hown hname hts hwm hl
  have hown : s.vm.findClass "java/util/Arrays" = some m.cls := hown
  have hal : z.vm.Alike s.vm := hwm.alike
  have hCF : CallFix p m c cJ13_copyOfRangeInt 5 s [.ref b, .int (nI u), .int (nI v)].toArray lw_all "java/util/Arrays" := ⟨hx, hb, hml, hown, hts⟩
  have hl : lv_has ls 5 [(0, .ref b), (1, .int (nI u)), (2, .int (nI v))] := hl
  have hS : va_S (gfr H0) H0 H0 [] := va_S.rf
  have lt_b := hb0.lt
  refine lv_iload_n hx hb dJ13_copyOfRangeInt_0 rfl (lv_at hl 1 rfl) ?_
  refine lv_iload_n hx hb dJ13_copyOfRangeInt_1 rfl (lv_at hl 2 rfl) ?_
  refine gcS2_vP hCF hwm hl.1 (m_checkLength l z H0  u v hu (by omega) ) (lw_S q481 q482 q73 q483) yd_J13_checkLength ⟨Nat.le_of_ble_eq_true rfl, Nat.le_of_ble_eq_true rfl⟩ ⟨by first | omega | (dsimp only; omega), by first | omega | (dsimp only; omega)⟩ (Nat.le_of_ble_eq_true rfl) dJ13_copyOfRangeInt_2 (fun hp => ?_)
  clear hp
  refine lv_iload_n hx hb dJ13_copyOfRangeInt_5 rfl (lv_at hl 2 rfl) ?_
  refine lv_iload_n hx hb dJ13_copyOfRangeInt_6 rfl (lv_at hl 1 rfl) ?_
  refine lv_isub hx hb dJ13_copyOfRangeInt_7 ?_
  refine g_topi (v := nI (v - u)) (ai_sub (a := v) (b := u) (rfl) (rfl) (by omega)) ?_
  refine lv_istore_n hx hb dJ13_copyOfRangeInt_8 rfl hl (by decide) rfl (fun ls hl => ?_)
  have hl : lv_has ls 5 [(3, .int (nI (v - u))), (0, .ref b), (1, .int (nI u)), (2, .int (nI v))] := hl
  refine lv_iload_n hx hb dJ13_copyOfRangeInt_9 rfl (lv_at hl 0 rfl) ?_
  refine gw_newa (atype := .int) (ty := .int) (N' := (v - u)) hx hb (hts _ q990) rfl hal hS (rfl) (by omega) (by simp [componentBytes]; omega) (by first | omega | (dsimp only; omega)) (by first | omega | (dsimp only; omega)) dJ13_copyOfRangeInt_10 (fun qa H_1 eqa zqa hgx h_qa hS => ?_)
  have hb0 := hb0.x hgx
  have h_qa : gI z true .int H_1 qa (v - u) (fun _ => 0) := h_qa
  have h_qa : gI z true .int H_1 qa (v - u) (dI (fun _ => 0)) := h_qa
  refine lv_astore hx hb dJ13_copyOfRangeInt_12 hl (by decide) rfl (fun ls hl => ?_)
  have hl : lv_has ls 5 [(4, .ref qa), (3, .int (nI (v - u))), (0, .ref b), (1, .int (nI u)), (2, .int (nI v))] := hl
  refine lv_aload_n hx hb dJ13_copyOfRangeInt_14 rfl (lv_at hl 2 rfl) ?_
  refine lv_iload_n hx hb dJ13_copyOfRangeInt_15 rfl (lv_at hl 3 rfl) ?_
  refine lv_aload hx hb dJ13_copyOfRangeInt_16 (lv_at hl 0 rfl) ?_
  refine lv_iconst (v := 0) hx hb dJ13_copyOfRangeInt_18 (by decide) ?_
  refine lv_aload_n hx hb dJ13_copyOfRangeInt_19 rfl (lv_at hl 2 rfl) ?_
  refine gw_len hx hb hal hb0 dJ13_copyOfRangeInt_20 ?_
  refine lv_iload_n hx hb dJ13_copyOfRangeInt_21 rfl (lv_at hl 3 rfl) ?_
  refine lv_isub hx hb dJ13_copyOfRangeInt_22 ?_
  refine g_topi (v := nI (n - u)) (ai_sub (a := n) (b := u) (rfl) (rfl) (by omega)) ?_
  refine lv_iload_n hx hb dJ13_copyOfRangeInt_23 rfl (lv_at hl 1 rfl) ?_
  refine gcS2_iP hCF hwm hl.1 (m_minI l z H_1 (nI (n - u)) (nI (v - u))  ) (lw_S q283 q284 q72 q285) yd_J12_min ⟨Nat.le_of_ble_eq_true rfl, Nat.le_of_ble_eq_true rfl⟩ ⟨by first | omega | (dsimp only; omega), by first | omega | (dsimp only; omega)⟩ (Nat.le_of_ble_eq_true rfl) dJ13_copyOfRangeInt_24 (fun r_2 hp => ?_)
  subst hp
  refine g_topi (v := nI (min (n - u) (v - u))) (ai_min (a := (n - u)) (b := (v - u)) (rfl) (rfl) (by omega) (by omega)) ?_
  refine g_topi (v := (nI (v - u))) ?_ ?_
  · skip
    exact congrArg nI (by omega)
  refine gw_copy hx hb (hml.trans hl.1.symm) hal hown (hts _ q286) (hts _ q288) (hts _ q287) (hts _ q74) rfl hb0 h_qa hS (by have hsz := hS.1; (try dsimp only [gfr]) <;> omega) u 0 (v - u) (rfl) (rfl) (rfl) (by omega) (by omega) (by omega) (by omega) (fun _ _ => rfl) (Nat.le_of_ble_eq_true rfl) (Nat.le_of_ble_eq_true rfl) dJ13_copyOfRangeInt_27 (fun H_3 locs h_new hch hS => ?_)
  have hb0 := hb0.ch hch (by omega)
  have sz_H_3 := hch.1
  clear hch
  have h_qa : gI z true .int H_3 qa (v - u) (va_cpy (dI d) (dI (fun _ => 0)) u 0 (v - u)) := h_new
  refine lv_aload hx hb dJ13_copyOfRangeInt_30 (lv_at hl 0 rfl) ?_
  refine g_aret hx hb hr hlocks (Or.inr ⟨_, rfl⟩) hS (by first | omega | (dsimp only; omega)) (by first | omega | (dsimp only; omega)) ?_ dJ13_copyOfRangeInt_32
  refine ⟨by omega, ?_⟩
  refine gA.cg h_qa ?_
  intro j hj
  show Value.int (va_cpy (dI d) (dI (fun _ => 0)) u 0 (v - u) j) = _
  unfold va_cpy
  rw [if_pos (by omega)]
  rfl
set_option maxHeartbeats 1000000 in
theorem m_copyRangeI (l : Launch) (z : State) (H0 : Heap) (b : Nat) (u v n : Nat) (d : Nat → Nat) (hu : u ≤ v) (hv : v ≤ n) (hn : n < 134217728) (hb0 : gI z true .int H0 b n (dI d)) (hz : zW z) : Met l yJ13_copyOfRange_2 (ws_ yJ13_copyOfRange_2 cJ13_copyOfRange_2 3 (some (.array .int))) { frames := 2, cells := 1, slots := (v - u), locals := 64 } (gPc z H0 [.ref b, .int (nI u), .int (nI v)]) (gRr (gfr H0) H0 (fun r H1 => H0.size ≤ r ∧ gI z true .int H1 r (v - u) (dI (fun i => d (u + i))))) 1 (v - u) (gfr H0) := by
  refine g_start (by decide +kernel) (Nat.le_of_ble_eq_true rfl) ?_
  intro p e s m below meth c ls hx hb hr hlocks hml hown hname hts hwm hl
  have hown : s.vm.findClass "java/util/Arrays" = some m.cls := hown
  have hal : z.vm.Alike s.vm := hwm.alike
  have hCF : CallFix p m c cJ13_copyOfRange_2 3 s [.ref b, .int (nI u), .int (nI v)].toArray lw_all "java/util/Arrays" := ⟨hx, hb, hml, hown, hts⟩
  have hl : lv_has ls 3 [(0, .ref b), (1, .int (nI u)), (2, .int (nI v))] := hl
  have hS : va_S (gfr H0) H0 H0 [] := va_S.rf
  have lt_b := hb0.lt
  refine lv_iload_n hx hb dJ13_copyOfRange_2_0 rfl (lv_at hl 1 rfl) ?_
  refine lv_if_ne (tgt := 10) hx hb dJ13_copyOfRange_2_1 (by decide) (fun c_1 => ?_) (fun c_1 => ?_)
  · skip
    have c_1 := mt (ai_eq (a := u) (b := 0) (rfl) (rfl) (by omega) (by omega)).mpr c_1
    refine lv_aload_n hx hb dJ13_copyOfRange_2_10 rfl (lv_at hl 0 rfl) ?_
    refine lv_iload_n hx hb dJ13_copyOfRange_2_11 rfl (lv_at hl 1 rfl) ?_
    refine lv_iload_n hx hb dJ13_copyOfRange_2_12 rfl (lv_at hl 2 rfl) ?_
    have hsz := hS.1
    refine gcS3_r hCF hwm hl.1 (m_copyRangeI6 l z H0 b u v n true d hu hv hn hb0 ) (lw_S q1019 q1020 q73 q1021) yd_J13_copyOfRangeInt hS (fun q h => Nat.le_trans hS.1 h) ⟨Nat.le_of_ble_eq_true rfl, Nat.le_of_ble_eq_true rfl⟩ ⟨by first | omega | (dsimp only; omega), by first | omega | (dsimp only; omega)⟩ (Nat.le_of_ble_eq_true rfl) dJ13_copyOfRange_2_13 (fun rc H_1 locs hp hex hS => ?_)
    have sz_H_1 : H0.size ≤ H_1.size := hex.1
    have hgx := hex.x
    clear hex
    have hb0 := hb0.x hgx
    have hN := hp
    refine g_aret hx hb hr hlocks (Or.inr ⟨_, rfl⟩) hS (by first | omega | (dsimp only; omega)) (by first | omega | (dsimp only; omega)) ?_ dJ13_copyOfRange_2_16
    exact hN
  · skip
    have c_1 := (ai_eq (a := u) (b := 0) (rfl) (rfl) (by omega) (by omega)).mp c_1
    refine lv_iload_n hx hb dJ13_copyOfRange_2_4 rfl (lv_at hl 2 rfl) ?_
    refine lv_aload_n hx hb dJ13_copyOfRange_2_5 rfl (lv_at hl 0 rfl) ?_
    refine gw_len hx hb hal hb0 dJ13_copyOfRange_2_6 ?_
    refine lv_icmp_eq (tgt := 17) hx hb dJ13_copyOfRange_2_7 (by decide) (fun c_7 => ?_) (fun c_7 => ?_)
    · skip
      have c_7 := (ai_eq (a := v) (b := n) (rfl) (rfl) (by omega) (by omega)).mp c_7
      refine lv_aload_n hx hb dJ13_copyOfRange_2_17 rfl (lv_at hl 0 rfl) ?_
      refine gw_clone (ty := .int) hx hb (hml.trans hl.1.symm) hal hown (hts _ q1022) (hts _ q1023) (hts _ q278) (hts _ q279) (hts _ q1024) (va_Nw.use rfl (va_Nw.warmC hwm hz.2.1)) rfl hb0 hS (fun _ _ => rfl) (Nat.le_of_ble_eq_true rfl) (Nat.le_of_ble_eq_true rfl) (by first | omega | (dsimp only; omega)) (by first | omega | (dsimp only; omega)) dJ13_copyOfRange_2_18 (fun q_2 H_3 eq_2 zq_2 hgx h_q_2 hS => ?_)
      have hb0 := hb0.x hgx
      have h_q_2 : gI z true .int H_3 q_2 n (dI d) := h_q_2
      refine gw_castA hx hb hal hown (hts _ q1026) h_q_2 rfl dJ13_copyOfRange_2_21 ?_
      refine g_aret hx hb hr hlocks (Or.inr ⟨_, rfl⟩) hS (by first | omega | (dsimp only; omega)) (by first | omega | (dsimp only; omega)) ?_ dJ13_copyOfRange_2_24
      have c_7 : v = n := by omega
      have c_1 : u = 0 := by omega
      subst c_7 c_1
      refine ⟨by omega, ?_⟩
      refine gA.cg h_q_2 ?_
      intro j hj
      show Value.int (dI d j) = Value.int (nI (d (0 + j)))
      rw [Nat.zero_add]
      rfl
    · skip
      have c_7 := mt (ai_eq (a := v) (b := n) (rfl) (rfl) (by omega) (by omega)).mpr c_7
      refine lv_aload_n hx hb dJ13_copyOfRange_2_10 rfl (lv_at hl 0 rfl) ?_
      refine lv_iload_n hx hb dJ13_copyOfRange_2_11 rfl (lv_at hl 1 rfl) ?_
      refine lv_iload_n hx hb dJ13_copyOfRange_2_12 rfl (lv_at hl 2 rfl) ?_
      have hsz := hS.1
      refine gcS3_r hCF hwm hl.1 (m_copyRangeI6 l z H0 b u v n true d hu hv hn hb0 ) (lw_S q1019 q1020 q73 q1021) yd_J13_copyOfRangeInt hS (fun q h => Nat.le_trans hS.1 h) ⟨Nat.le_of_ble_eq_true rfl, Nat.le_of_ble_eq_true rfl⟩ ⟨by first | omega | (dsimp only; omega), by first | omega | (dsimp only; omega)⟩ (Nat.le_of_ble_eq_true rfl) dJ13_copyOfRange_2_13 (fun rc H_4 locs hp hex hS => ?_)
      have sz_H_4 : H0.size ≤ H_4.size := hex.1
      have hgx := hex.x
      clear hex
      have hb0 := hb0.x hgx
      have hN := hp
      refine g_aret hx hb hr hlocks (Or.inr ⟨_, rfl⟩) hS (by first | omega | (dsimp only; omega)) (by first | omega | (dsimp only; omega)) ?_ dJ13_copyOfRange_2_16
      exact hN
set_option maxHeartbeats 1000000 in
theorem m_strip (l : Launch) (z : State) (H0 : Heap) (b : Nat) (n : Nat) (d : Nat → Nat) (hn : n < 134217728) (hd : ∀ i, d i < 4294967296) (hb0 : gI z true .int H0 b n (dI d)) (hzw : zW z) : Met l yJ22_trustedStripLeadingZeroInts (ws_ yJ22_trustedStripLeadingZeroInts cJ22_trustedStripLeadingZeroInts 3 (some (.array .int))) { frames := 3, cells := 1, slots := n, locals := 86 } (gPc z H0 [.ref b]) (gRr (gfr H0) H0 (fun r H1 => ∃ i, i ≤ n ∧ (∀ j, j < i → d j = 0) ∧ (i < n → d i ≠ 0) ∧ gI z true .int H1 r (n - i) (dI (fun j => d (i + j))) ∧ (r = b ∨ H0.size ≤ r))) 1 n (gfr H0) := by
  refine g_start (by decide +kernel) (Nat.le_of_ble_eq_true rfl) ?_
  intro p e s m below meth c ls hx hb hr hlocks hml hown hname hts hwm hl
  have hown : s.vm.findClass "java/math/BigInteger" = some m.cls := hown
  have hal : z.vm.Alike s.vm := hwm.alike
  have hCF : CallFix p m c cJ22_trustedStripLeadingZeroInts 3 s [.ref b].toArray lw_all "java/math/BigInteger" := ⟨hx, hb, hml, hown, hts⟩
  have hl : lv_has ls 3 [(0, .ref b)] := hl
  have hS : va_S (gfr H0) H0 H0 [] := va_S.rf
  have lt_b := hb0.lt
  refine lv_aload_n hx hb dJ22_trustedStripLeadingZeroInts_0 rfl (lv_at hl 0 rfl) ?_
  refine gw_len hx hb hal hb0 dJ22_trustedStripLeadingZeroInts_1 ?_
  refine lv_istore_n hx hb dJ22_trustedStripLeadingZeroInts_2 rfl hl (by decide) rfl (fun ls hl => ?_)
  have hl : lv_has ls 3 [(1, .int (nI n)), (0, .ref b)] := hl
  refine lv_iconst (v := 0) hx hb dJ22_trustedStripLeadingZeroInts_3 (by decide) ?_
  refine lv_istore_n hx hb dJ22_trustedStripLeadingZeroInts_4 rfl hl (by decide) rfl (fun ls hl => ?_)
  have hl : lv_has ls 3 [(2, .int 0), (1, .int (nI n)), (0, .ref b)] := hl
  have loop : ∀ (n_ : Nat) (i : Nat), (i ≤ n) → (∀ j, j < i → d j = 0) → (n - i) < n_ → ∀ (H_1 : Heap) (locs : List Loc), va_S (gfr H0) H0 H_1 locs → gI z true .int H_1 b n (dI d) → ∀ (ls : Array Slot), lv_has ls 3 [(2, .int (nI i)), (1, .int (nI n)), (0, .ref b)] → W p l e { frames := 3, cells := 1, slots := n, locals := 86 } s m [.ref b].toArray below meth c H_1 locs 0 0 (MQ below (gRr (gfr H0) H0 (fun r H1 => ∃ i, i ≤ n ∧ (∀ j, j < i → d j = 0) ∧ (i < n → d i ≠ 0) ∧ gI z true .int H1 r (n - i) (dI (fun j => d (i + j))) ∧ (r = b ∨ H0.size ≤ r))) [.ref b].toArray s 1 n (gfr H0)) (F0 m 5 ls []) := by
    intro n_
    induction n_ with
    | zero => intro i hi hq hm_; exact absurd hm_ (Nat.not_lt_zero _)
    | succ n_ ih_loop =>
      intro i hi hq hm_ H_1 locs hS hb0 ls hl
      refine lv_iload_n hx hb dJ22_trustedStripLeadingZeroInts_5 rfl (lv_at hl 0 rfl) ?_
      refine lv_iload_n hx hb dJ22_trustedStripLeadingZeroInts_6 rfl (lv_at hl 1 rfl) ?_
      refine lv_icmp_ge (tgt := 22) hx hb dJ22_trustedStripLeadingZeroInts_7 (by decide) (fun c_7 => ?_) (fun c_7 => ?_)
      · skip
        have c_7 := (ai_le (a := n) (b := i) (rfl) (rfl) (by omega) (by omega)).mp c_7
        refine lv_iload_n hx hb dJ22_trustedStripLeadingZeroInts_22 rfl (lv_at hl 0 rfl) ?_
        refine lv_if_ne (tgt := 30) hx hb dJ22_trustedStripLeadingZeroInts_23 (by decide) (fun c_23 => ?_) (fun c_23 => ?_)
        · skip
          have c_23 := mt (ai_eq (a := i) (b := 0) (rfl) (rfl) (by omega) (by omega)).mpr c_23
          refine lv_aload_n hx hb dJ22_trustedStripLeadingZeroInts_30 rfl (lv_at hl 2 rfl) ?_
          refine lv_iload_n hx hb dJ22_trustedStripLeadingZeroInts_31 rfl (lv_at hl 0 rfl) ?_
          refine lv_iload_n hx hb dJ22_trustedStripLeadingZeroInts_32 rfl (lv_at hl 1 rfl) ?_
          have hsz := hS.1
          refine gcS3_r hCF hwm hl.1 (m_copyRangeI l z H_1 b i n n d hi (Nat.le_refl _) hn hb0 hzw ) (lw_S q1255 q1017 q73 q1018) yd_J13_copyOfRange_2 hS (fun q h => Nat.le_trans hS.1 h) ⟨Nat.le_of_ble_eq_true rfl, Nat.le_of_ble_eq_true rfl⟩ ⟨by first | omega | (dsimp only; omega), by first | omega | (dsimp only; omega)⟩ (Nat.le_of_ble_eq_true rfl) dJ22_trustedStripLeadingZeroInts_33 (fun rc H_2 locs hp hex hS => ?_)
          have sz_H_2 : H_1.size ≤ H_2.size := hex.1
          have hgx := hex.x
          clear hex
          have hb0 := hb0.x hgx
          obtain ⟨hr1, hr2⟩ := hp
          refine g_aret hx hb hr hlocks (Or.inr ⟨_, rfl⟩) hS (by first | omega | (dsimp only; omega)) (by first | omega | (dsimp only; omega)) ?_ dJ22_trustedStripLeadingZeroInts_36
          exact ⟨i, hi, hq, fun q => absurd q (by omega), hr2, Or.inr (by omega)⟩
        · skip
          have c_23 := (ai_eq (a := i) (b := 0) (rfl) (rfl) (by omega) (by omega)).mp c_23
          refine lv_aload_n hx hb dJ22_trustedStripLeadingZeroInts_26 rfl (lv_at hl 2 rfl) ?_
          refine lv_goto (tgt := 36) hx hb dJ22_trustedStripLeadingZeroInts_27 (by decide) ?_
          refine g_aret hx hb hr hlocks (Or.inr ⟨_, rfl⟩) hS (by first | omega | (dsimp only; omega)) (by first | omega | (dsimp only; omega)) ?_ dJ22_trustedStripLeadingZeroInts_36
          have e0 : i = 0 := by omega
          subst e0
          refine ⟨0, hi, hq, fun q => absurd q (by omega), gA.cg hb0 fun j hj => ?_, Or.inl rfl⟩
          show Value.int (nI (d j)) = Value.int (nI (d (0 + j)))
          rw [Nat.zero_add]
      · skip
        have c_7 := mt (ai_le (a := n) (b := i) (rfl) (rfl) (by omega) (by omega)).mpr c_7
        refine lv_aload_n hx hb dJ22_trustedStripLeadingZeroInts_10 rfl (lv_at hl 2 rfl) ?_
        refine lv_iload_n hx hb dJ22_trustedStripLeadingZeroInts_11 rfl (lv_at hl 0 rfl) ?_
        refine gw_iald hx hb hal hb0 i (rfl) (by omega) (by omega) dJ22_trustedStripLeadingZeroInts_12 ?_
        refine g_topi (v := (nI (d i))) rfl ?_
        refine lv_if_ne (tgt := 22) hx hb dJ22_trustedStripLeadingZeroInts_13 (by decide) (fun c_13 => ?_) (fun c_13 => ?_)
        · skip
          have c_13 := mt (ai_eqU (a := (d i)) (b := 0) (rfl) (rfl) (hd _) (by omega)).mpr c_13
          refine lv_iload_n hx hb dJ22_trustedStripLeadingZeroInts_22 rfl (lv_at hl 0 rfl) ?_
          refine lv_if_ne (tgt := 30) hx hb dJ22_trustedStripLeadingZeroInts_23 (by decide) (fun c_23 => ?_) (fun c_23 => ?_)
          · skip
            have c_23 := mt (ai_eq (a := i) (b := 0) (rfl) (rfl) (by omega) (by omega)).mpr c_23
            refine lv_aload_n hx hb dJ22_trustedStripLeadingZeroInts_30 rfl (lv_at hl 2 rfl) ?_
            refine lv_iload_n hx hb dJ22_trustedStripLeadingZeroInts_31 rfl (lv_at hl 0 rfl) ?_
            refine lv_iload_n hx hb dJ22_trustedStripLeadingZeroInts_32 rfl (lv_at hl 1 rfl) ?_
            have hsz := hS.1
            refine gcS3_r hCF hwm hl.1 (m_copyRangeI l z H_1 b i n n d hi (Nat.le_refl _) hn hb0 hzw ) (lw_S q1255 q1017 q73 q1018) yd_J13_copyOfRange_2 hS (fun q h => Nat.le_trans hS.1 h) ⟨Nat.le_of_ble_eq_true rfl, Nat.le_of_ble_eq_true rfl⟩ ⟨by first | omega | (dsimp only; omega), by first | omega | (dsimp only; omega)⟩ (Nat.le_of_ble_eq_true rfl) dJ22_trustedStripLeadingZeroInts_33 (fun rc H_3 locs hp hex hS => ?_)
            have sz_H_3 : H_1.size ≤ H_3.size := hex.1
            have hgx := hex.x
            clear hex
            have hb0 := hb0.x hgx
            obtain ⟨hr1, hr2⟩ := hp
            refine g_aret hx hb hr hlocks (Or.inr ⟨_, rfl⟩) hS (by first | omega | (dsimp only; omega)) (by first | omega | (dsimp only; omega)) ?_ dJ22_trustedStripLeadingZeroInts_36
            exact ⟨i, hi, hq, fun _ => c_13, hr2, Or.inr (by omega)⟩
          · skip
            have c_23 := (ai_eq (a := i) (b := 0) (rfl) (rfl) (by omega) (by omega)).mp c_23
            refine lv_aload_n hx hb dJ22_trustedStripLeadingZeroInts_26 rfl (lv_at hl 2 rfl) ?_
            refine lv_goto (tgt := 36) hx hb dJ22_trustedStripLeadingZeroInts_27 (by decide) ?_
            refine g_aret hx hb hr hlocks (Or.inr ⟨_, rfl⟩) hS (by first | omega | (dsimp only; omega)) (by first | omega | (dsimp only; omega)) ?_ dJ22_trustedStripLeadingZeroInts_36
            have e0 : i = 0 := by omega
            subst e0
            refine ⟨0, hi, hq, fun _ => c_13, gA.cg hb0 fun j hj => ?_, Or.inl rfl⟩
            show Value.int (nI (d j)) = Value.int (nI (d (0 + j)))
            rw [Nat.zero_add]
        · skip
          have c_13 := (ai_eqU (a := (d i)) (b := 0) (rfl) (rfl) (hd _) (by omega)).mp c_13
          refine lv_iinc (k := 0) (v := (nI (i + 1))) hx hb dJ22_trustedStripLeadingZeroInts_16 hl rfl (ai_add (a := i) (b := 1) (rfl) (show Int32.ofInt 1 = nI 1 by decide)) (by decide) rfl (fun ls hl => ?_)
          have hl : lv_has ls 3 [(2, .int (nI (i + 1))), (1, .int (nI n)), (0, .ref b)] := hl
          refine lv_goto (tgt := 5) hx hb dJ22_trustedStripLeadingZeroInts_19 (by decide) ?_
          exact ih_loop (i + 1) (by omega) (fun j hj => by rcases Nat.lt_or_ge j i with q | q; exact hq j q; rw [show j = i by omega]; exact c_13) (by omega) H_1 _ hS hb0 ls (lv_sub hl [0, 1, 2] rfl)
  exact loop _ 0 (Nat.zero_le _) (fun j hj => by omega) (Nat.lt_succ_self _) H0 _ hS hb0 ls (lv_sub hl [0, 1, 2] rfl)
set_option maxHeartbeats 1000000 in
theorem m_mulCheck (l : Launch) (z : State) (H0 : Heap) (b : Nat) (n : Nat) (w : Bool) (d : Nat → Nat) (hn0 : 0 < n) (hn : n < 134217728) (hb0 : gI z w .int H0 b n (dI d)) : Met l yJ22_multiplyToLenCheck (ws_ yJ22_multiplyToLenCheck cJ22_multiplyToLenCheck 2 (none)) { frames := 1, cells := 0, slots := 0, locals := 20 } (gPc z H0 [.ref b, .int (nI n)]) (gPv H0 (True)) 0 0 gno := by
  refine g_start (by decide +kernel) (Nat.le_of_ble_eq_true rfl) ?_
  intro p e s m below meth c ls hx hb hr hlocks hml hown hname hts hwm hl
  have hown : s.vm.findClass "java/math/BigInteger" = some m.cls := hown
  have hal : z.vm.Alike s.vm := hwm.alike
  have hCF : CallFix p m c cJ22_multiplyToLenCheck 2 s [.ref b, .int (nI n)].toArray lw_all "java/math/BigInteger" := ⟨hx, hb, hml, hown, hts⟩
  have hl : lv_has ls 2 [(0, .ref b), (1, .int (nI n))] := hl
  refine lv_iload_n hx hb dJ22_multiplyToLenCheck_0 rfl (lv_at hl 1 rfl) ?_
  refine lv_if_gt (tgt := 5) hx hb dJ22_multiplyToLenCheck_1 (by decide) (fun c_1 => ?_) (fun c_1 => False.elim (by
    have c_1 := mt (ai_lt (a := 0) (b := n) (rfl) (rfl) (by omega) (by omega)).mpr c_1
    omega))
  have c_1 := (ai_lt (a := 0) (b := n) (rfl) (rfl) (by omega) (by omega)).mp c_1
  refine lv_aload_n hx hb dJ22_multiplyToLenCheck_5 rfl (lv_at hl 0 rfl) ?_
  refine gcS1_rP hCF hwm hl.1 (m_nonNull l z H0 b  ) (lw_S q1324 q615 q81 q616) yd_J20_requireNonNull ⟨Nat.le_of_ble_eq_true rfl, Nat.le_of_ble_eq_true rfl⟩ ⟨Nat.le_of_ble_eq_true rfl, Nat.le_of_ble_eq_true rfl⟩ (Nat.le_of_ble_eq_true rfl) dJ22_multiplyToLenCheck_6 (fun r_1 hp => ?_)
  replace hp := hp.symm
  subst hp
  refine lv_pop hx hb dJ22_multiplyToLenCheck_9 rfl ?_
  refine lv_iload_n hx hb dJ22_multiplyToLenCheck_10 rfl (lv_at hl 1 rfl) ?_
  refine lv_aload_n hx hb dJ22_multiplyToLenCheck_11 rfl (lv_at hl 0 rfl) ?_
  refine gw_len hx hb hal hb0 dJ22_multiplyToLenCheck_12 ?_
  refine lv_icmp_le (tgt := 27) hx hb dJ22_multiplyToLenCheck_13 (by decide) (fun c_13 => ?_) (fun c_13 => False.elim (by
    have c_13 := mt (ai_le (a := n) (b := n) (rfl) (rfl) (by omega) (by omega)).mpr c_13
    omega))
  have c_13 := (ai_le (a := n) (b := n) (rfl) (rfl) (by omega) (by omega)).mp c_13
  refine g_vretP hx hb hr hlocks ?_ dJ22_multiplyToLenCheck_27
  trivial
set_option maxHeartbeats 1000000 in
theorem m_mulLen6 (l : Launch) (z : State) (H0 : Heap) (x : Nat) (y : Nat) (xl yl : Nat) (w1 w2 : Bool) (d d2 : Nat → Nat) (hx0 : 0 < xl) (hy0 : 0 < yl) (hx9 : xl < 1000000) (hy9 : yl < 1000000) (hd : ∀ i, d i < 4294967296) (hd2 : ∀ i, d2 i < 4294967296) (hX : gI z w1 .int H0 x xl (dI d)) (hY : gI z w2 .int H0 y yl (dI d2)) : Met l yJ22_implMultiplyToLen (ws_ yJ22_implMultiplyToLen cJ22_implMultiplyToLen 14 (some (.array .int))) { frames := 0, cells := 1, slots := (xl + yl), locals := 0 } (gPc z H0 [.ref x, .int (nI xl), .ref y, .int (nI yl),  .null]) (gRr (gfr H0) H0 (fun r H1 => H0.size ≤ r ∧ ∃ ee, (∀ i, ee i < 4294967296) ∧ gI z true .int H1 r (xl + yl) (dI ee) ∧ val ee (xl + yl) = val d xl * val d2 yl)) 1 (xl + yl) (gfr H0) := by
  refine g_start (by decide +kernel) (Nat.le_of_ble_eq_true rfl) ?_
  intro p e s m below meth c ls hx hb hr hlocks hml hown hname hts hwm hl
  have hown : s.vm.findClass "java/math/BigInteger" = some m.cls := hown
  have hal : z.vm.Alike s.vm := hwm.alike
  have hCF : CallFix p m c cJ22_implMultiplyToLen 14 s [.ref x, .int (nI xl), .ref y, .int (nI yl),  .null].toArray lw_all "java/math/BigInteger" := ⟨hx, hb, hml, hown, hts⟩
  have hl : lv_has ls 14 [(0, .ref x), (1, .int (nI xl)), (2, .ref y), (3, .int (nI yl)), (4,  .null)] := hl
  have hS : va_S (gfr H0) H0 H0 [] := va_S.rf
  have lt_x := hX.lt
  have lt_y := hY.lt
  refine lv_iload_n hx hb dJ22_implMultiplyToLen_0 rfl (lv_at hl 1 rfl) ?_
  refine lv_iconst (v := 1) hx hb dJ22_implMultiplyToLen_1 (by decide) ?_
  refine lv_isub hx hb dJ22_implMultiplyToLen_2 ?_
  refine g_topi (v := nI (xl - 1)) (ai_sub (a := xl) (b := 1) (rfl) (rfl) (by omega)) ?_
  refine lv_istore hx hb dJ22_implMultiplyToLen_3 hl (by decide) rfl (fun ls hl => ?_)
  have hl : lv_has ls 14 [(5, .int (nI (xl - 1))), (0, .ref x), (1, .int (nI xl)), (2, .ref y), (3, .int (nI yl)), (4,  .null)] := hl
  refine lv_iload_n hx hb dJ22_implMultiplyToLen_5 rfl (lv_at hl 4 rfl) ?_
  refine lv_iconst (v := 1) hx hb dJ22_implMultiplyToLen_6 (by decide) ?_
  refine lv_isub hx hb dJ22_implMultiplyToLen_7 ?_
  refine g_topi (v := nI (yl - 1)) (ai_sub (a := yl) (b := 1) (rfl) (rfl) (by omega)) ?_
  refine lv_istore hx hb dJ22_implMultiplyToLen_8 hl (by decide) rfl (fun ls hl => ?_)
  have hl : lv_has ls 14 [(6, .int (nI (yl - 1))), (5, .int (nI (xl - 1))), (0, .ref x), (1, .int (nI xl)), (2, .ref y), (3, .int (nI yl)), (4,  .null)] := hl
  refine lv_aloadN hx hb dJ22_implMultiplyToLen_10 (lv_at hl 6 rfl) ?_
  refine lv_ifnullN (tgt := 24) hx hb dJ22_implMultiplyToLen_12 (by decide) ?_
  refine lv_iload_n hx hb dJ22_implMultiplyToLen_24 rfl (lv_at hl 3 rfl) ?_
  refine lv_iload_n hx hb dJ22_implMultiplyToLen_25 rfl (lv_at hl 5 rfl) ?_
  refine lv_iadd hx hb dJ22_implMultiplyToLen_26 ?_
  refine g_topi (v := nI (xl + yl)) (ai_add (a := xl) (b := yl) (rfl) (rfl)) ?_
  refine gw_newa (atype := .int) (ty := .int) (N' := (xl + yl)) hx hb (hts _ q990) rfl hal hS (rfl) (by omega) (by simp [componentBytes]; omega) (by first | omega | (dsimp only; omega)) (by first | omega | (dsimp only; omega)) dJ22_implMultiplyToLen_27 (fun qz H_1 eqz zqz hgx h_qz hS => ?_)
  have hX := hX.x hgx
  have hY := hY.x hgx
  have h_qz : gI z true .int H_1 qz (xl + yl) (fun _ => 0) := h_qz
  have h_qz : gI z true .int H_1 qz (xl + yl) (dI (fun _ => 0)) := h_qz
  refine lv_astore hx hb dJ22_implMultiplyToLen_29 hl (by decide) rfl (fun ls hl => ?_)
  have hl : lv_has ls 14 [(4, .ref qz), (6, .int (nI (yl - 1))), (5, .int (nI (xl - 1))), (0, .ref x), (1, .int (nI xl)), (2, .ref y), (3, .int (nI yl))] := hl
  refine lv_lconst (v := 0) hx hb dJ22_implMultiplyToLen_31 (by decide) ?_
  refine lv_lstore hx hb dJ22_implMultiplyToLen_32 hl (by decide) rfl (fun ls hl => ?_)
  have hl : lv_has ls 14 [(7, .long 0), (4, .ref qz), (6, .int (nI (yl - 1))), (5, .int (nI (xl - 1))), (0, .ref x), (1, .int (nI xl)), (2, .ref y), (3, .int (nI yl))] := hl
  refine lv_iload hx hb dJ22_implMultiplyToLen_34 (lv_at hl 2 rfl) ?_
  refine lv_istore hx hb dJ22_implMultiplyToLen_36 hl (by decide) rfl (fun ls hl => ?_)
  have hl : lv_has ls 14 [(9, .int (nI (yl - 1))), (7, .long 0), (4, .ref qz), (6, .int (nI (yl - 1))), (5, .int (nI (xl - 1))), (0, .ref x), (1, .int (nI xl)), (2, .ref y), (3, .int (nI yl))] := hl
  refine lv_iload hx hb dJ22_implMultiplyToLen_38 (lv_at hl 3 rfl) ?_
  refine lv_iconst (v := 1) hx hb dJ22_implMultiplyToLen_40 (by decide) ?_
  refine lv_iadd hx hb dJ22_implMultiplyToLen_41 ?_
  refine g_topi (v := nI ((yl - 1) + 1)) (ai_add (a := (yl - 1)) (b := 1) (rfl) (rfl)) ?_
  refine lv_iload hx hb dJ22_implMultiplyToLen_42 (lv_at hl 4 rfl) ?_
  refine lv_iadd hx hb dJ22_implMultiplyToLen_44 ?_
  refine g_topi (v := (nI (xl - 1 + yl))) (by rw [nI_add]; exact congrArg nI (by omega)) ?_
  refine lv_istore hx hb dJ22_implMultiplyToLen_45 hl (by decide) rfl (fun ls hl => ?_)
  have hl : lv_has ls 14 [(10, .int (nI (xl - 1 + yl))), (9, .int (nI (yl - 1))), (7, .long 0), (4, .ref qz), (6, .int (nI (yl - 1))), (5, .int (nI (xl - 1))), (0, .ref x), (1, .int (nI xl)), (2, .ref y), (3, .int (nI yl))] := hl
  replace hl : lv_has ls 14 [(10, .int (nI (xl - 1 + yl))), (9, .int (iI ((yl : Int) - 1))), (7, .long (lN 0)), (4, .ref qz), (6, .int (nI (yl - 1))), (5, .int (nI (xl - 1))), (0, .ref x), (1, .int (nI xl)), (2, .ref y), (3, .int (nI yl))] := by
    rw [show (iI ((yl : Int) - 1)) = nI (yl - 1) by rw [nI_iI]; exact congrArg iI (by omega)]
    exact hl
  have loopA : ∀ (n_ : Nat) (t kk : Nat) (ee : Nat → Nat), (t ≤ yl) → (kk < 4294967296) → (∀ i, ee i < 4294967296) → (∀ i, i < xl + t → ee i = 0) → (seg ee (xl + t) (yl - t) + kk * 4294967296 ^ (yl - t) = d (xl - 1) * seg d2 t (yl - t)) → (t) < n_ → ∀ (H_2 : Heap) (locs : List Loc), va_S (gfr H0) H0 H_2 locs → gI z w1 .int H_2 x xl (dI d) → gI z w2 .int H_2 y yl (dI d2) → gI z true .int H_2 qz (xl + yl) (dI ee) → ∀ (ls : Array Slot), lv_has ls 14 [(10, .int (nI (xl - 1 + t))), (9, .int (iI ((t : Int) - 1))), (7, .long (lN kk)), (4, .ref qz), (6, .int (nI (yl - 1))), (5, .int (nI (xl - 1))), (0, .ref x), (1, .int (nI xl)), (2, .ref y), (3, .int (nI yl))] → W p l e { frames := 0, cells := 1, slots := (xl + yl), locals := 0 } s m [.ref x, .int (nI xl), .ref y, .int (nI yl),  .null].toArray below meth c H_2 locs 1 (0 + (xl + yl)) (MQ below (gRr (gfr H0) H0 (fun r H1 => H0.size ≤ r ∧ ∃ ee, (∀ i, ee i < 4294967296) ∧ gI z true .int H1 r (xl + yl) (dI ee) ∧ val ee (xl + yl) = val d xl * val d2 yl)) [.ref x, .int (nI xl), .ref y, .int (nI yl),  .null].toArray s 1 (xl + yl) (gfr H0)) (F0 m 47 ls []) := by
    intro n_
    induction n_ with
    | zero => intro t kk ee ht hkk he hz0 hs hm_; exact absurd hm_ (Nat.not_lt_zero _)
    | succ n_ ih_loopA =>
      intro t kk ee ht hkk he hz0 hs hm_ H_2 locs hS hX hY h_qz ls hl
      refine lv_iload hx hb dJ22_implMultiplyToLen_47 (lv_at hl 1 rfl) ?_
      refine lv_if_lt (tgt := 100) hx hb dJ22_implMultiplyToLen_49 (by decide) (fun c_49 => ?_) (fun c_49 => ?_)
      · skip
        have c_49 := (ai_ltI (a := ((t : Int) - 1)) (b := 0) (rfl) (by decide) (by omega) (by omega) (by omega) (by omega)).mp c_49
        refine lv_aload hx hb dJ22_implMultiplyToLen_100 (lv_at hl 3 rfl) ?_
        refine lv_iload hx hb dJ22_implMultiplyToLen_102 (lv_at hl 5 rfl) ?_
        refine lv_lload hx hb dJ22_implMultiplyToLen_104 (lv_at hl 2 rfl) ?_
        refine lv_l2i hx hb dJ22_implMultiplyToLen_106 rfl ?_
        refine g_topi (v := nI kk) (ai_l2i (rfl)) ?_
        refine gw_iast (f := (dI ee)) hx hb hal h_qz hS (by have hsz := hS.1; (try dsimp only [gfr]) <;> omega) (xl - 1) (rfl) (by omega) (by omega) dJ22_implMultiplyToLen_107 (fun H_3 locs h_new hch hS => ?_)
        have hX := hX.ch hch (by omega)
        have hY := hY.ch hch (by omega)
        have sz_H_3 := hch.1
        clear hch
        have h_qz : gI z true .int H_3 qz (xl + yl) (upd (dI ee) (xl - 1) (nI kk)) := h_new
        replace h_qz : gI z true .int H_3 qz (xl + yl) (dI (dup ee (xl - 1) (kk % 4294967296))) := by
          have q := h_qz
          rw [dI_put] at q
          exact q
        have bd_4 : ∀ i, (dup ee (xl - 1) (kk % 4294967296)) i < 4294967296 := dup_lt he (Nat.mod_lt _ (by decide))
        refine lv_iload hx hb dJ22_implMultiplyToLen_108 (lv_at hl 5 rfl) ?_
        refine lv_iconst (v := 1) hx hb dJ22_implMultiplyToLen_110 (by decide) ?_
        refine lv_isub hx hb dJ22_implMultiplyToLen_111 ?_
        refine g_topi (v := iI (((xl - 1) : Nat) - 1)) (ai_subI (a := ((xl - 1) : Nat)) (b := 1) (nI_iI _) (by decide)) ?_
        refine lv_istore hx hb dJ22_implMultiplyToLen_112 hl (by decide) rfl (fun ls hl => ?_)
        have hl : lv_has ls 14 [(9, .int (iI (((xl - 1) : Nat) - 1))), (10, .int (nI (xl - 1 + t))), (7, .long (lN kk)), (4, .ref qz), (6, .int (nI (yl - 1))), (5, .int (nI (xl - 1))), (0, .ref x), (1, .int (nI xl)), (2, .ref y), (3, .int (nI yl))] := hl
        replace hl : lv_has ls 14 [(9, .int (iI (((xl - 1 : Nat) : Int) - 1))), (10, .int (nI (xl - 1 + t))), (7, .long (lN kk)), (4, .ref qz), (6, .int (nI (yl - 1))), (5, .int (nI (xl - 1))), (0, .ref x), (1, .int (nI xl)), (2, .ref y), (3, .int (nI yl))] := by
          exact hl
        have loopB : ∀ (n_ : Nat) (u : Nat) (ee : Nat → Nat), (u ≤ xl - 1) → (∀ i, ee i < 4294967296) → (∀ i, i < u → ee i = 0) → (seg ee u (xl + yl - u) = seg d u (xl - u) * val d2 yl) → (u) < n_ → ∀ (H_5 : Heap) (locs : List Loc), va_S (gfr H0) H0 H_5 locs → gI z w1 .int H_5 x xl (dI d) → gI z w2 .int H_5 y yl (dI d2) → gI z true .int H_5 qz (xl + yl) (dI ee) → ∀ (ls : Array Slot), lv_has ls 14 [(9, .int (iI ((u : Int) - 1))), (4, .ref qz), (6, .int (nI (yl - 1))), (5, .int (nI (xl - 1))), (0, .ref x), (1, .int (nI xl)), (2, .ref y), (3, .int (nI yl))] → W p l e { frames := 0, cells := 1, slots := (xl + yl), locals := 0 } s m [.ref x, .int (nI xl), .ref y, .int (nI yl),  .null].toArray below meth c H_5 locs 1 (0 + (xl + yl)) (MQ below (gRr (gfr H0) H0 (fun r H1 => H0.size ≤ r ∧ ∃ ee, (∀ i, ee i < 4294967296) ∧ gI z true .int H1 r (xl + yl) (dI ee) ∧ val ee (xl + yl) = val d xl * val d2 yl)) [.ref x, .int (nI xl), .ref y, .int (nI yl),  .null].toArray s 1 (xl + yl) (gfr H0)) (F0 m 114 ls []) := by
          intro n_
          induction n_ with
          | zero => intro u ee hu he hz0 hv hm_; exact absurd hm_ (Nat.not_lt_zero _)
          | succ n_ ih_loopB =>
            intro u ee hu he hz0 hv hm_ H_5 locs hS hX hY h_qz ls hl
            refine lv_iload hx hb dJ22_implMultiplyToLen_114 (lv_at hl 0 rfl) ?_
            refine lv_if_lt (tgt := 213) hx hb dJ22_implMultiplyToLen_116 (by decide) (fun c_116 => ?_) (fun c_116 => ?_)
            · skip
              have c_116 := (ai_ltI (a := ((u : Int) - 1)) (b := 0) (rfl) (by decide) (by omega) (by omega) (by omega) (by omega)).mp c_116
              refine lv_aload hx hb dJ22_implMultiplyToLen_213 (lv_at hl 1 rfl) ?_
              refine g_aret hx hb hr hlocks (Or.inr ⟨_, rfl⟩) hS (by first | omega | (dsimp only; omega)) (by first | omega | (dsimp only; omega)) ?_ dJ22_implMultiplyToLen_215
              have e0 : u = 0 := by omega
              subst e0
              refine ⟨by omega, ee, he, h_qz, ?_⟩
              rw [seg_0, seg_0] at hv
              exact hv
            · skip
              have c_116 := mt (ai_ltI (a := ((u : Int) - 1)) (b := 0) (rfl) (by decide) (by omega) (by omega) (by omega) (by omega)).mpr c_116
              replace hl : lv_has ls 14 [(9, .int (nI (u - 1))), (4, .ref qz), (6, .int (nI (yl - 1))), (5, .int (nI (xl - 1))), (0, .ref x), (1, .int (nI xl)), (2, .ref y), (3, .int (nI yl))] := by
                rw [show nI (u - 1) = iI ((u : Int) - 1) by rw [nI_iI]; exact congrArg iI (by omega)]
                exact hl
              refine lv_lconst (v := 0) hx hb dJ22_implMultiplyToLen_119 (by decide) ?_
              refine lv_lstore hx hb dJ22_implMultiplyToLen_120 hl (by decide) rfl (fun ls hl => ?_)
              have hl : lv_has ls 14 [(7, .long 0), (9, .int (nI (u - 1))), (4, .ref qz), (6, .int (nI (yl - 1))), (5, .int (nI (xl - 1))), (0, .ref x), (1, .int (nI xl)), (2, .ref y), (3, .int (nI yl))] := hl
              refine lv_iload hx hb dJ22_implMultiplyToLen_122 (lv_at hl 3 rfl) ?_
              refine lv_istore hx hb dJ22_implMultiplyToLen_124 hl (by decide) rfl (fun ls hl => ?_)
              have hl : lv_has ls 14 [(10, .int (nI (yl - 1))), (7, .long 0), (9, .int (nI (u - 1))), (4, .ref qz), (6, .int (nI (yl - 1))), (5, .int (nI (xl - 1))), (0, .ref x), (1, .int (nI xl)), (2, .ref y), (3, .int (nI yl))] := hl
              refine lv_iload hx hb dJ22_implMultiplyToLen_126 (lv_at hl 4 rfl) ?_
              refine lv_iconst (v := 1) hx hb dJ22_implMultiplyToLen_128 (by decide) ?_
              refine lv_iadd hx hb dJ22_implMultiplyToLen_129 ?_
              refine g_topi (v := nI ((yl - 1) + 1)) (ai_add (a := (yl - 1)) (b := 1) (rfl) (rfl)) ?_
              refine lv_iload hx hb dJ22_implMultiplyToLen_130 (lv_at hl 2 rfl) ?_
              refine lv_iadd hx hb dJ22_implMultiplyToLen_132 ?_
              refine g_topi (v := (nI (u - 1 + yl))) (by rw [nI_add]; exact congrArg nI (by omega)) ?_
              refine lv_istore hx hb dJ22_implMultiplyToLen_133 hl (by decide) rfl (fun ls hl => ?_)
              have hl : lv_has ls 14 [(11, .int (nI (u - 1 + yl))), (10, .int (nI (yl - 1))), (7, .long 0), (9, .int (nI (u - 1))), (4, .ref qz), (6, .int (nI (yl - 1))), (5, .int (nI (xl - 1))), (0, .ref x), (1, .int (nI xl)), (2, .ref y), (3, .int (nI yl))] := hl
              replace hl : lv_has ls 14 [(11, .int (nI (u - 1 + yl))), (10, .int (iI ((yl : Int) - 1))), (7, .long (lN 0)), (9, .int (nI (u - 1))), (4, .ref qz), (6, .int (nI (yl - 1))), (5, .int (nI (xl - 1))), (0, .ref x), (1, .int (nI xl)), (2, .ref y), (3, .int (nI yl))] := by
                rw [show (iI ((yl : Int) - 1)) = nI (yl - 1) by rw [nI_iI]; exact congrArg iI (by omega)]
                exact hl
              have loopC : ∀ (n_ : Nat) (t kk : Nat) (g : Nat → Nat), (t ≤ yl) → (kk < 4294967296) → (∀ i, g i < 4294967296) → (∀ i, (i < u + t ∨ u + yl ≤ i) → g i = ee i) → (seg g (u + t) (yl - t) + kk * 4294967296 ^ (yl - t) = seg ee (u + t) (yl - t) + d (u - 1) * seg d2 t (yl - t)) → (t) < n_ → ∀ (H_6 : Heap) (locs : List Loc), va_S (gfr H0) H0 H_6 locs → gI z w1 .int H_6 x xl (dI d) → gI z w2 .int H_6 y yl (dI d2) → gI z true .int H_6 qz (xl + yl) (dI g) → ∀ (ls : Array Slot), lv_has ls 14 [(11, .int (nI (u - 1 + t))), (10, .int (iI ((t : Int) - 1))), (7, .long (lN kk)), (9, .int (nI (u - 1))), (4, .ref qz), (6, .int (nI (yl - 1))), (5, .int (nI (xl - 1))), (0, .ref x), (1, .int (nI xl)), (2, .ref y), (3, .int (nI yl))] → W p l e { frames := 0, cells := 1, slots := (xl + yl), locals := 0 } s m [.ref x, .int (nI xl), .ref y, .int (nI yl),  .null].toArray below meth c H_6 locs 1 (0 + (xl + yl)) (MQ below (gRr (gfr H0) H0 (fun r H1 => H0.size ≤ r ∧ ∃ ee, (∀ i, ee i < 4294967296) ∧ gI z true .int H1 r (xl + yl) (dI ee) ∧ val ee (xl + yl) = val d xl * val d2 yl)) [.ref x, .int (nI xl), .ref y, .int (nI yl),  .null].toArray s 1 (xl + yl) (gfr H0)) (F0 m 135 ls []) := by
                intro n_
                induction n_ with
                | zero => intro t kk g ht hkk hg hgo hs hm_; exact absurd hm_ (Nat.not_lt_zero _)
                | succ n_ ih_loopC =>
                  intro t kk g ht hkk hg hgo hs hm_ H_6 locs hS hX hY h_qz ls hl
                  refine lv_iload hx hb dJ22_implMultiplyToLen_135 (lv_at hl 1 rfl) ?_
                  refine lv_if_lt (tgt := 199) hx hb dJ22_implMultiplyToLen_137 (by decide) (fun c_137 => ?_) (fun c_137 => ?_)
                  · skip
                    have c_137 := (ai_ltI (a := ((t : Int) - 1)) (b := 0) (rfl) (by decide) (by omega) (by omega) (by omega) (by omega)).mp c_137
                    refine lv_aload hx hb dJ22_implMultiplyToLen_199 (lv_at hl 4 rfl) ?_
                    refine lv_iload hx hb dJ22_implMultiplyToLen_201 (lv_at hl 3 rfl) ?_
                    refine lv_lload hx hb dJ22_implMultiplyToLen_203 (lv_at hl 2 rfl) ?_
                    refine lv_l2i hx hb dJ22_implMultiplyToLen_205 rfl ?_
                    refine g_topi (v := nI kk) (ai_l2i (rfl)) ?_
                    refine gw_iast (f := (dI g)) hx hb hal h_qz hS (by have hsz := hS.1; (try dsimp only [gfr]) <;> omega) (u - 1) (rfl) (by omega) (by omega) dJ22_implMultiplyToLen_206 (fun H_7 locs h_new hch hS => ?_)
                    have hX := hX.ch hch (by omega)
                    have hY := hY.ch hch (by omega)
                    have sz_H_7 := hch.1
                    clear hch
                    have h_qz : gI z true .int H_7 qz (xl + yl) (upd (dI g) (u - 1) (nI kk)) := h_new
                    replace h_qz : gI z true .int H_7 qz (xl + yl) (dI (dup g (u - 1) (kk % 4294967296))) := by
                      have q := h_qz
                      rw [dI_put] at q
                      exact q
                    have bd_8 : ∀ i, (dup g (u - 1) (kk % 4294967296)) i < 4294967296 := dup_lt hg (Nat.mod_lt _ (by decide))
                    refine lv_iinc (k := 3) (v := (iI (((u - 1 : Nat) : Int) - 1))) hx hb dJ22_implMultiplyToLen_207 hl rfl (by rw [nI_iI, show Int32.ofInt (-1) = iI (-1) from rfl, iI_add]; exact congrArg iI (by omega)) (by decide) rfl (fun ls hl => ?_)
                    have hl : lv_has ls 14 [(9, .int (iI (((u - 1 : Nat) : Int) - 1))), (11, .int (nI (u - 1 + t))), (10, .int (iI ((t : Int) - 1))), (7, .long (lN kk)), (4, .ref qz), (6, .int (nI (yl - 1))), (5, .int (nI (xl - 1))), (0, .ref x), (1, .int (nI xl)), (2, .ref y), (3, .int (nI yl))] := hl
                    refine lv_goto (tgt := 114) hx hb dJ22_implMultiplyToLen_210 (by decide) ?_
                    exact ih_loopB (u - 1) (dup g (u - 1) (kk % 4294967296)) (by omega) bd_8 (fun i hi => by rw [dup_n (by omega), hgo i (by omega)]; exact hz0 i (by omega)) (by rw [show u + t = u by omega, show yl - t = yl by omega, show t = 0 by omega] at hs; exact mulO (by omega) hu hkk (fun i h => hgo i (by omega)) hs hv) (by omega) H_7 _ hS hX hY h_qz ls (lv_sub hl [0, 4, 5, 6, 7, 8, 9, 10] rfl)
                  · skip
                    have c_137 := mt (ai_ltI (a := ((t : Int) - 1)) (b := 0) (rfl) (by decide) (by omega) (by omega) (by omega) (by omega)).mpr c_137
                    replace hl : lv_has ls 14 [(11, .int (nI (u - 1 + t))), (10, .int (nI (t - 1))), (7, .long (lN kk)), (9, .int (nI (u - 1))), (4, .ref qz), (6, .int (nI (yl - 1))), (5, .int (nI (xl - 1))), (0, .ref x), (1, .int (nI xl)), (2, .ref y), (3, .int (nI yl))] := by
                      rw [show nI (t - 1) = iI ((t : Int) - 1) by rw [nI_iI]; exact congrArg iI (by omega)]
                      exact hl
                    refine lv_aload_n hx hb dJ22_implMultiplyToLen_140 rfl (lv_at hl 9 rfl) ?_
                    refine lv_iload hx hb dJ22_implMultiplyToLen_141 (lv_at hl 1 rfl) ?_
                    refine gw_iald hx hb hal hY (t - 1) (rfl) (by omega) (by omega) dJ22_implMultiplyToLen_143 ?_
                    refine g_topi (v := (nI (d2 (t - 1)))) rfl ?_
                    refine lv_i2l hx hb dJ22_implMultiplyToLen_144 rfl ?_
                    refine lv_ldc2 (v := 4294967295) hx hb hown (hts _ q1228) dJ22_implMultiplyToLen_145 ?_
                    refine lv_land hx hb dJ22_implMultiplyToLen_148 ?_
                    refine g_topl (v := lN (d2 (t - 1))) (mk32 (a := (d2 (t - 1))) (rfl) (hd2 _)) ?_
                    refine lv_aload_n hx hb dJ22_implMultiplyToLen_149 rfl (lv_at hl 7 rfl) ?_
                    refine lv_iload hx hb dJ22_implMultiplyToLen_150 (lv_at hl 3 rfl) ?_
                    refine gw_iald hx hb hal hX (u - 1) (rfl) (by omega) (by omega) dJ22_implMultiplyToLen_152 ?_
                    refine g_topi (v := (nI (d (u - 1)))) rfl ?_
                    refine lv_i2l hx hb dJ22_implMultiplyToLen_153 rfl ?_
                    refine lv_ldc2 (v := 4294967295) hx hb hown (hts _ q1228) dJ22_implMultiplyToLen_154 ?_
                    refine lv_land hx hb dJ22_implMultiplyToLen_157 ?_
                    refine g_topl (v := lN (d (u - 1))) (mk32 (a := (d (u - 1))) (rfl) (hd _)) ?_
                    refine lv_lmul hx hb dJ22_implMultiplyToLen_158 ?_
                    refine g_topl (v := lN ((d2 (t - 1)) * (d (u - 1)))) (ai_mulL (a := (d2 (t - 1))) (b := (d (u - 1))) (rfl) (rfl)) ?_
                    refine lv_aload hx hb dJ22_implMultiplyToLen_159 (lv_at hl 4 rfl) ?_
                    refine lv_iload hx hb dJ22_implMultiplyToLen_161 (lv_at hl 0 rfl) ?_
                    refine gw_iald hx hb hal h_qz (u - 1 + t) (rfl) (by omega) (by omega) dJ22_implMultiplyToLen_163 ?_
                    refine g_topi (v := (nI (g (u - 1 + t)))) rfl ?_
                    refine lv_i2l hx hb dJ22_implMultiplyToLen_164 rfl ?_
                    refine lv_ldc2 (v := 4294967295) hx hb hown (hts _ q1228) dJ22_implMultiplyToLen_165 ?_
                    refine lv_land hx hb dJ22_implMultiplyToLen_168 ?_
                    refine g_topl (v := lN (g (u - 1 + t))) (mk32 (a := (g (u - 1 + t))) (rfl) (hg _)) ?_
                    refine lv_ladd hx hb dJ22_implMultiplyToLen_169 ?_
                    refine g_topl (v := lN (((d2 (t - 1)) * (d (u - 1))) + (g (u - 1 + t)))) (ai_addL (a := ((d2 (t - 1)) * (d (u - 1)))) (b := (g (u - 1 + t))) (rfl) (rfl)) ?_
                    refine lv_lload hx hb dJ22_implMultiplyToLen_170 (lv_at hl 2 rfl) ?_
                    refine lv_ladd hx hb dJ22_implMultiplyToLen_172 ?_
                    refine g_topl (v := lN ((((d2 (t - 1)) * (d (u - 1))) + (g (u - 1 + t))) + kk)) (ai_addL (a := (((d2 (t - 1)) * (d (u - 1))) + (g (u - 1 + t)))) (b := kk) (rfl) (rfl)) ?_
                    obtain ⟨P, hP⟩ : ∃ P : Nat, P = ((((d2 (t - 1)) * (d (u - 1))) + (g (u - 1 + t))) + kk) := ⟨_, rfl⟩
                    refine g_topl (v := lN P) (by rw [hP]) ?_
                    have hP9 : P < 18446744073709551616 := by rw [hP]; exact mul_bd (hd2 (t - 1)) (hd (u - 1)) (hg _) hkk
                    refine lv_lstore hx hb dJ22_implMultiplyToLen_173 hl (by decide) rfl (fun ls hl => ?_)
                    have hl : lv_has ls 14 [(12, .long (lN P)), (11, .int (nI (u - 1 + t))), (10, .int (nI (t - 1))), (7, .long (lN kk)), (9, .int (nI (u - 1))), (4, .ref qz), (6, .int (nI (yl - 1))), (5, .int (nI (xl - 1))), (0, .ref x), (1, .int (nI xl)), (2, .ref y), (3, .int (nI yl))] := hl
                    refine lv_aload hx hb dJ22_implMultiplyToLen_175 (lv_at hl 5 rfl) ?_
                    refine lv_iload hx hb dJ22_implMultiplyToLen_177 (lv_at hl 1 rfl) ?_
                    refine lv_lload hx hb dJ22_implMultiplyToLen_179 (lv_at hl 0 rfl) ?_
                    refine lv_l2i hx hb dJ22_implMultiplyToLen_181 rfl ?_
                    refine g_topi (v := nI P) (ai_l2i (rfl)) ?_
                    refine gw_iast (f := (dI g)) hx hb hal h_qz hS (by have hsz := hS.1; (try dsimp only [gfr]) <;> omega) (u - 1 + t) (rfl) (by omega) (by omega) dJ22_implMultiplyToLen_182 (fun H_9 locs h_new hch hS => ?_)
                    have hX := hX.ch hch (by omega)
                    have hY := hY.ch hch (by omega)
                    have sz_H_9 := hch.1
                    clear hch
                    have h_qz : gI z true .int H_9 qz (xl + yl) (upd (dI g) (u - 1 + t) (nI P)) := h_new
                    replace h_qz : gI z true .int H_9 qz (xl + yl) (dI (dup g (u - 1 + t) (P % 4294967296))) := by
                      have q := h_qz
                      rw [dI_put] at q
                      exact q
                    have bd_10 : ∀ i, (dup g (u - 1 + t) (P % 4294967296)) i < 4294967296 := dup_lt hg (Nat.mod_lt _ (by decide))
                    refine lv_lload hx hb dJ22_implMultiplyToLen_183 (lv_at hl 0 rfl) ?_
                    refine lv_bipush (v := 32) hx hb dJ22_implMultiplyToLen_185 (by decide) ?_
                    refine lv_lushr hx hb dJ22_implMultiplyToLen_187 rfl ?_
                    refine g_topl (v := lN (P / 4294967296)) (lN_shr32 (a := P) (hP9)) ?_
                    refine lv_lstore hx hb dJ22_implMultiplyToLen_188 hl (by decide) rfl (fun ls hl => ?_)
                    have hl : lv_has ls 14 [(7, .long (lN (P / 4294967296))), (12, .long (lN P)), (11, .int (nI (u - 1 + t))), (10, .int (nI (t - 1))), (9, .int (nI (u - 1))), (4, .ref qz), (6, .int (nI (yl - 1))), (5, .int (nI (xl - 1))), (0, .ref x), (1, .int (nI xl)), (2, .ref y), (3, .int (nI yl))] := hl
                    refine lv_iinc (k := 3) (v := (iI (((t - 1 : Nat) : Int) - 1))) hx hb dJ22_implMultiplyToLen_190 hl rfl (by rw [nI_iI, show Int32.ofInt (-1) = iI (-1) from rfl, iI_add]; exact congrArg iI (by omega)) (by decide) rfl (fun ls hl => ?_)
                    have hl : lv_has ls 14 [(10, .int (iI (((t - 1 : Nat) : Int) - 1))), (7, .long (lN (P / 4294967296))), (12, .long (lN P)), (11, .int (nI (u - 1 + t))), (9, .int (nI (u - 1))), (4, .ref qz), (6, .int (nI (yl - 1))), (5, .int (nI (xl - 1))), (0, .ref x), (1, .int (nI xl)), (2, .ref y), (3, .int (nI yl))] := hl
                    refine lv_iinc (k := 3) (v := (nI ((u - 1 + t) - 1))) hx hb dJ22_implMultiplyToLen_193 hl rfl (ai_sbn (a := (u - 1 + t)) (b := 1) (rfl) (show Int32.ofInt (-1) = -nI 1 by decide) (by omega)) (by decide) rfl (fun ls hl => ?_)
                    have hl : lv_has ls 14 [(11, .int (nI ((u - 1 + t) - 1))), (10, .int (iI (((t - 1 : Nat) : Int) - 1))), (7, .long (lN (P / 4294967296))), (12, .long (lN P)), (9, .int (nI (u - 1))), (4, .ref qz), (6, .int (nI (yl - 1))), (5, .int (nI (xl - 1))), (0, .ref x), (1, .int (nI xl)), (2, .ref y), (3, .int (nI yl))] := hl
                    refine lv_goto (tgt := 135) hx hb dJ22_implMultiplyToLen_196 (by decide) ?_
                    replace hl : lv_has ls 14 [(11, .int (nI (u - 1 + (t - 1)))), (10, .int (iI (((t - 1 : Nat) : Int) - 1))), (7, .long (lN (P / 4294967296))), (12, .long (lN P)), (9, .int (nI (u - 1))), (4, .ref qz), (6, .int (nI (yl - 1))), (5, .int (nI (xl - 1))), (0, .ref x), (1, .int (nI xl)), (2, .ref y), (3, .int (nI yl))] := by
                      rw [show u - 1 + (t - 1) = u - 1 + t - 1 by omega]
                      exact hl
                    exact ih_loopC (t - 1) (P / 4294967296) (dup g (u - 1 + t) (P % 4294967296)) (by omega) (by omega) bd_10 (fun i hi => by rw [dup_n (by omega)]; exact hgo i (by omega)) (by have q := mulA (P := P) (o := u) (e := ee) (t := yl - t) (by omega) (by rw [hP, hgo (u - 1 + t) (by omega), show u - 1 + t = u + t - 1 by omega]) hs rfl; rw [show u + (t - 1) = u + t - 1 by omega, show yl - (t - 1) = yl - t + 1 by omega]; rw [show u - 1 + t = u + t - 1 by omega]; exact q) (by omega) H_9 _ hS hX hY h_qz ls (lv_sub hl [0, 1, 2, 4, 5, 6, 7, 8, 9, 10, 11] rfl)
              exact loopC _ yl 0 ee (Nat.le_refl _) (by decide) he (fun _ _ => rfl) (by simp [seg_z]) (Nat.lt_succ_self _) H_5 _ hS hX hY h_qz ls (lv_sub hl [0, 1, 2, 3, 4, 5, 6, 7, 8, 9, 10] rfl)
        exact loopB _ (xl - 1) (dup ee (xl - 1) (kk % 4294967296)) (Nat.le_refl _) bd_4 (fun i hi => by rw [dup_n (by omega)]; exact hz0 i (by omega)) (by rw [show t = 0 by omega] at hs; exact mulO0 hx0 hkk hs) (Nat.lt_succ_self _) H_3 _ hS hX hY h_qz ls (lv_sub hl [0, 3, 4, 5, 6, 7, 8, 9] rfl)
      · skip
        have c_49 := mt (ai_ltI (a := ((t : Int) - 1)) (b := 0) (rfl) (by decide) (by omega) (by omega) (by omega) (by omega)).mpr c_49
        replace hl : lv_has ls 14 [(10, .int (nI (xl - 1 + t))), (9, .int (nI (t - 1))), (7, .long (lN kk)), (4, .ref qz), (6, .int (nI (yl - 1))), (5, .int (nI (xl - 1))), (0, .ref x), (1, .int (nI xl)), (2, .ref y), (3, .int (nI yl))] := by
          rw [show nI (t - 1) = iI ((t : Int) - 1) by rw [nI_iI]; exact congrArg iI (by omega)]
          exact hl
        refine lv_aload_n hx hb dJ22_implMultiplyToLen_52 rfl (lv_at hl 8 rfl) ?_
        refine lv_iload hx hb dJ22_implMultiplyToLen_53 (lv_at hl 1 rfl) ?_
        refine gw_iald hx hb hal hY (t - 1) (rfl) (by omega) (by omega) dJ22_implMultiplyToLen_55 ?_
        refine g_topi (v := (nI (d2 (t - 1)))) rfl ?_
        refine lv_i2l hx hb dJ22_implMultiplyToLen_56 rfl ?_
        refine lv_ldc2 (v := 4294967295) hx hb hown (hts _ q1228) dJ22_implMultiplyToLen_57 ?_
        refine lv_land hx hb dJ22_implMultiplyToLen_60 ?_
        refine g_topl (v := lN (d2 (t - 1))) (mk32 (a := (d2 (t - 1))) (rfl) (hd2 _)) ?_
        refine lv_aload_n hx hb dJ22_implMultiplyToLen_61 rfl (lv_at hl 6 rfl) ?_
        refine lv_iload hx hb dJ22_implMultiplyToLen_62 (lv_at hl 5 rfl) ?_
        refine gw_iald hx hb hal hX (xl - 1) (rfl) (by omega) (by omega) dJ22_implMultiplyToLen_64 ?_
        refine g_topi (v := (nI (d (xl - 1)))) rfl ?_
        refine lv_i2l hx hb dJ22_implMultiplyToLen_65 rfl ?_
        refine lv_ldc2 (v := 4294967295) hx hb hown (hts _ q1228) dJ22_implMultiplyToLen_66 ?_
        refine lv_land hx hb dJ22_implMultiplyToLen_69 ?_
        refine g_topl (v := lN (d (xl - 1))) (mk32 (a := (d (xl - 1))) (rfl) (hd _)) ?_
        refine lv_lmul hx hb dJ22_implMultiplyToLen_70 ?_
        refine g_topl (v := lN ((d2 (t - 1)) * (d (xl - 1)))) (ai_mulL (a := (d2 (t - 1))) (b := (d (xl - 1))) (rfl) (rfl)) ?_
        refine lv_lload hx hb dJ22_implMultiplyToLen_71 (lv_at hl 2 rfl) ?_
        refine lv_ladd hx hb dJ22_implMultiplyToLen_73 ?_
        refine g_topl (v := lN (((d2 (t - 1)) * (d (xl - 1))) + kk)) (ai_addL (a := ((d2 (t - 1)) * (d (xl - 1)))) (b := kk) (rfl) (rfl)) ?_
        obtain ⟨P, hP⟩ : ∃ P : Nat, P = (((d2 (t - 1)) * (d (xl - 1))) + kk) := ⟨_, rfl⟩
        refine g_topl (v := lN P) (by rw [hP]) ?_
        have hP9 : P < 18446744073709551616 := by rw [hP]; have := mul_bd (hd2 (t - 1)) (hd (xl - 1)) (show 0 < 4294967296 by decide) hkk; omega
        refine lv_lstore hx hb dJ22_implMultiplyToLen_74 hl (by decide) rfl (fun ls hl => ?_)
        have hl : lv_has ls 14 [(11, .long (lN P)), (10, .int (nI (xl - 1 + t))), (9, .int (nI (t - 1))), (7, .long (lN kk)), (4, .ref qz), (6, .int (nI (yl - 1))), (5, .int (nI (xl - 1))), (0, .ref x), (1, .int (nI xl)), (2, .ref y), (3, .int (nI yl))] := hl
        refine lv_aload hx hb dJ22_implMultiplyToLen_76 (lv_at hl 4 rfl) ?_
        refine lv_iload hx hb dJ22_implMultiplyToLen_78 (lv_at hl 1 rfl) ?_
        refine lv_lload hx hb dJ22_implMultiplyToLen_80 (lv_at hl 0 rfl) ?_
        refine lv_l2i hx hb dJ22_implMultiplyToLen_82 rfl ?_
        refine g_topi (v := nI P) (ai_l2i (rfl)) ?_
        refine gw_iast (f := (dI ee)) hx hb hal h_qz hS (by have hsz := hS.1; (try dsimp only [gfr]) <;> omega) (xl - 1 + t) (rfl) (by omega) (by omega) dJ22_implMultiplyToLen_83 (fun H_11 locs h_new hch hS => ?_)
        have hX := hX.ch hch (by omega)
        have hY := hY.ch hch (by omega)
        have sz_H_11 := hch.1
        clear hch
        have h_qz : gI z true .int H_11 qz (xl + yl) (upd (dI ee) (xl - 1 + t) (nI P)) := h_new
        replace h_qz : gI z true .int H_11 qz (xl + yl) (dI (dup ee (xl - 1 + t) (P % 4294967296))) := by
          have q := h_qz
          rw [dI_put] at q
          exact q
        have bd_12 : ∀ i, (dup ee (xl - 1 + t) (P % 4294967296)) i < 4294967296 := dup_lt he (Nat.mod_lt _ (by decide))
        refine lv_lload hx hb dJ22_implMultiplyToLen_84 (lv_at hl 0 rfl) ?_
        refine lv_bipush (v := 32) hx hb dJ22_implMultiplyToLen_86 (by decide) ?_
        refine lv_lushr hx hb dJ22_implMultiplyToLen_88 rfl ?_
        refine g_topl (v := lN (P / 4294967296)) (lN_shr32 (a := P) (hP9)) ?_
        refine lv_lstore hx hb dJ22_implMultiplyToLen_89 hl (by decide) rfl (fun ls hl => ?_)
        have hl : lv_has ls 14 [(7, .long (lN (P / 4294967296))), (11, .long (lN P)), (10, .int (nI (xl - 1 + t))), (9, .int (nI (t - 1))), (4, .ref qz), (6, .int (nI (yl - 1))), (5, .int (nI (xl - 1))), (0, .ref x), (1, .int (nI xl)), (2, .ref y), (3, .int (nI yl))] := hl
        refine lv_iinc (k := 3) (v := (iI (((t - 1 : Nat) : Int) - 1))) hx hb dJ22_implMultiplyToLen_91 hl rfl (by rw [nI_iI, show Int32.ofInt (-1) = iI (-1) from rfl, iI_add]; exact congrArg iI (by omega)) (by decide) rfl (fun ls hl => ?_)
        have hl : lv_has ls 14 [(9, .int (iI (((t - 1 : Nat) : Int) - 1))), (7, .long (lN (P / 4294967296))), (11, .long (lN P)), (10, .int (nI (xl - 1 + t))), (4, .ref qz), (6, .int (nI (yl - 1))), (5, .int (nI (xl - 1))), (0, .ref x), (1, .int (nI xl)), (2, .ref y), (3, .int (nI yl))] := hl
        refine lv_iinc (k := 3) (v := (nI ((xl - 1 + t) - 1))) hx hb dJ22_implMultiplyToLen_94 hl rfl (ai_sbn (a := (xl - 1 + t)) (b := 1) (rfl) (show Int32.ofInt (-1) = -nI 1 by decide) (by omega)) (by decide) rfl (fun ls hl => ?_)
        have hl : lv_has ls 14 [(10, .int (nI ((xl - 1 + t) - 1))), (9, .int (iI (((t - 1 : Nat) : Int) - 1))), (7, .long (lN (P / 4294967296))), (11, .long (lN P)), (4, .ref qz), (6, .int (nI (yl - 1))), (5, .int (nI (xl - 1))), (0, .ref x), (1, .int (nI xl)), (2, .ref y), (3, .int (nI yl))] := hl
        refine lv_goto (tgt := 47) hx hb dJ22_implMultiplyToLen_97 (by decide) ?_
        replace hl : lv_has ls 14 [(10, .int (nI (xl - 1 + (t - 1)))), (9, .int (iI (((t - 1 : Nat) : Int) - 1))), (7, .long (lN (P / 4294967296))), (11, .long (lN P)), (4, .ref qz), (6, .int (nI (yl - 1))), (5, .int (nI (xl - 1))), (0, .ref x), (1, .int (nI xl)), (2, .ref y), (3, .int (nI yl))] := by
          rw [show xl - 1 + (t - 1) = xl - 1 + t - 1 by omega]
          exact hl
        exact ih_loopA (t - 1) (P / 4294967296) (dup ee (xl - 1 + t) (P % 4294967296)) (by omega) (by omega) bd_12 (fun i hi => by rw [dup_n (by omega)]; exact hz0 i (by omega)) (by have q := mulA0 (o := xl) (t := yl - t) (by omega) hP hs rfl; rw [show xl + (t - 1) = xl + t - 1 by omega, show yl - (t - 1) = yl - t + 1 by omega]; rw [show xl - 1 + t = xl + t - 1 by omega]; exact q) (by omega) H_11 _ hS hX hY h_qz ls (lv_sub hl [0, 1, 2, 4, 5, 6, 7, 8, 9, 10] rfl)
  exact loopA _ yl 0 (fun _ => 0) (Nat.le_refl _) (by decide) (fun _ => by decide) (fun _ _ => rfl) (by simp [seg_z]) (Nat.lt_succ_self _) H_1 _ hS hX hY h_qz ls (lv_sub hl [0, 1, 2, 3, 4, 5, 6, 7, 8, 9] rfl)
set_option maxHeartbeats 1000000 in
theorem m_mulLen (l : Launch) (z : State) (H0 : Heap) (x : Nat) (y : Nat) (xl yl : Nat) (w1 w2 : Bool) (d d2 : Nat → Nat) (hx0 : 0 < xl) (hy0 : 0 < yl) (hx9 : xl < 1000000) (hy9 : yl < 1000000) (hd : ∀ i, d i < 4294967296) (hd2 : ∀ i, d2 i < 4294967296) (hX : gI z w1 .int H0 x xl (dI d)) (hY : gI z w2 .int H0 y yl (dI d2)) : Met l yJ22_multiplyToLen (ws_ yJ22_multiplyToLen cJ22_multiplyToLen 5 (some (.array .int))) { frames := 2, cells := 1, slots := (xl + yl), locals := 41 } (gPc z H0 [.ref x, .int (nI xl), .ref y, .int (nI yl),  .null]) (gRr (gfr H0) H0 (fun r H1 => H0.size ≤ r ∧ ∃ ee, (∀ i, ee i < 4294967296) ∧ gI z true .int H1 r (xl + yl) (dI ee) ∧ val ee (xl + yl) = val d xl * val d2 yl)) 1 (xl + yl) (gfr H0) := by
  refine g_start (by decide +kernel) (Nat.le_of_ble_eq_true rfl) ?_
  intro p e s m below meth c ls hx hb hr hlocks hml hown hname hts hwm hl
  have hown : s.vm.findClass "java/math/BigInteger" = some m.cls := hown
  have hal : z.vm.Alike s.vm := hwm.alike
  have hCF : CallFix p m c cJ22_multiplyToLen 5 s [.ref x, .int (nI xl), .ref y, .int (nI yl),  .null].toArray lw_all "java/math/BigInteger" := ⟨hx, hb, hml, hown, hts⟩
  have hl : lv_has ls 5 [(0, .ref x), (1, .int (nI xl)), (2, .ref y), (3, .int (nI yl)), (4,  .null)] := hl
  have hS : va_S (gfr H0) H0 H0 [] := va_S.rf
  have lt_x := hX.lt
  have lt_y := hY.lt
  refine lv_aload_n hx hb dJ22_multiplyToLen_0 rfl (lv_at hl 0 rfl) ?_
  refine lv_iload_n hx hb dJ22_multiplyToLen_1 rfl (lv_at hl 1 rfl) ?_
  refine gcS2_vP hCF hwm hl.1 (m_mulCheck l z H0 x xl w1 d hx0 (by omega) hX ) (lw_S q1321 q1322 q83 q1323) yd_J22_multiplyToLenCheck ⟨Nat.le_of_ble_eq_true rfl, Nat.le_of_ble_eq_true rfl⟩ ⟨by first | omega | (dsimp only; omega), by first | omega | (dsimp only; omega)⟩ (Nat.le_of_ble_eq_true rfl) dJ22_multiplyToLen_2 (fun hp => ?_)
  clear hp
  refine lv_aload_n hx hb dJ22_multiplyToLen_5 rfl (lv_at hl 2 rfl) ?_
  refine lv_iload_n hx hb dJ22_multiplyToLen_6 rfl (lv_at hl 3 rfl) ?_
  refine gcS2_vP hCF hwm hl.1 (m_mulCheck l z H0 y yl w2 d2 hy0 (by omega) hY ) (lw_S q1321 q1322 q83 q1323) yd_J22_multiplyToLenCheck ⟨Nat.le_of_ble_eq_true rfl, Nat.le_of_ble_eq_true rfl⟩ ⟨by first | omega | (dsimp only; omega), by first | omega | (dsimp only; omega)⟩ (Nat.le_of_ble_eq_true rfl) dJ22_multiplyToLen_7 (fun hp => ?_)
  clear hp
  refine lv_aload_n hx hb dJ22_multiplyToLen_10 rfl (lv_at hl 0 rfl) ?_
  refine lv_iload_n hx hb dJ22_multiplyToLen_11 rfl (lv_at hl 1 rfl) ?_
  refine lv_aload_n hx hb dJ22_multiplyToLen_12 rfl (lv_at hl 2 rfl) ?_
  refine lv_iload_n hx hb dJ22_multiplyToLen_13 rfl (lv_at hl 3 rfl) ?_
  refine lv_aloadN hx hb dJ22_multiplyToLen_14 (lv_at hl 4 rfl) ?_
  have hsz := hS.1
  refine gcS5_r hCF hwm hl.1 (m_mulLen6 l z H0 x y xl yl w1 w2 d d2 hx0 hy0 hx9 hy9 hd hd2 hX hY ) (lw_S q1327 q1328 q83 q1329) yd_J22_implMultiplyToLen hS (fun q h => Nat.le_trans hS.1 h) ⟨Nat.le_of_ble_eq_true rfl, Nat.le_of_ble_eq_true rfl⟩ ⟨by first | omega | (dsimp only; omega), by first | omega | (dsimp only; omega)⟩ (Nat.le_of_ble_eq_true rfl) dJ22_multiplyToLen_16 (fun rc H_1 locs hp hex hS => ?_)
  have sz_H_1 : H0.size ≤ H_1.size := hex.1
  have hgx := hex.x
  clear hex
  have hX := hX.x hgx
  have hY := hY.x hgx
  have hN := hp
  refine g_aret hx hb hr hlocks (Or.inr ⟨_, rfl⟩) hS (by first | omega | (dsimp only; omega)) (by first | omega | (dsimp only; omega)) ?_ dJ22_multiplyToLen_19
  exact hN
