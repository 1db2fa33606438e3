/-! ## walks (written by tools) -/
set_option maxRecDepth 100000
def dkwJ13_copyOf_1 : List UInt8 := [27, 184, 1, 48, 184, 0, 150, 44, 176]
abbrev dktJ13_copyOf_1 : List UInt8 := dkwJ13_copyOf_1 ++ []
def dkwJ13_copyOf_0 : List UInt8 := [27, 42, 190, 160, 0, 11, 42, 182, 1, 54, 192, 1, 55, 176, 27, 188, 8, 77, 42, 3, 44, 3, 42, 190]
abbrev dktJ13_copyOf_0 : List UInt8 := dkwJ13_copyOf_0 ++ dktJ13_copyOf_1
theorem dksJ13_copyOf_0 : cJ13_copyOf.data.toList.drop 0 = dktJ13_copyOf_0 := by decide +kernel
theorem dksJ13_copyOf_1 : cJ13_copyOf.data.toList.drop 24 = dktJ13_copyOf_1 := dk_seg dksJ13_copyOf_0 24 rfl rfl
theorem dJ13_copyOf_0 : decode cJ13_copyOf 0 = .ok (.iload_n 1, 1) := dk_27 (dk_at dksJ13_copyOf_0 0 rfl rfl)
theorem dJ13_copyOf_1 : decode cJ13_copyOf 1 = .ok (.aload_n 0, 1) := dk_42 (dk_at dksJ13_copyOf_0 1 rfl rfl)
theorem dJ13_copyOf_2 : decode cJ13_copyOf 2 = .ok (.arraylength, 1) := dk_190 (dk_at dksJ13_copyOf_0 2 rfl rfl)
theorem dJ13_copyOf_3 : decode cJ13_copyOf 3 = .ok (.if_icmp .ne 11, 3) := dk_160 0 11 (dk_at dksJ13_copyOf_0 3 rfl rfl)
theorem dJ13_copyOf_6 : decode cJ13_copyOf 6 = .ok (.aload_n 0, 1) := dk_42 (dk_at dksJ13_copyOf_0 6 rfl rfl)
theorem dJ13_copyOf_7 : decode cJ13_copyOf 7 = .ok (.invokevirtual 310, 3) := dk_182 1 54 (dk_at dksJ13_copyOf_0 7 rfl rfl)
theorem dJ13_copyOf_10 : decode cJ13_copyOf 10 = .ok (.checkcast 311, 3) := dk_192 1 55 (dk_at dksJ13_copyOf_0 10 rfl rfl)
theorem dJ13_copyOf_13 : decode cJ13_copyOf 13 = .ok (.areturn, 1) := dk_176 (dk_at dksJ13_copyOf_0 13 rfl rfl)
theorem dJ13_copyOf_14 : decode cJ13_copyOf 14 = .ok (.iload_n 1, 1) := dk_27 (dk_at dksJ13_copyOf_0 14 rfl rfl)
theorem dJ13_copyOf_15 : decode cJ13_copyOf 15 = .ok (.newarray .byte, 2) := dk_188_8 (dk_at dksJ13_copyOf_0 15 rfl rfl)
theorem dJ13_copyOf_17 : decode cJ13_copyOf 17 = .ok (.astore_n 2, 1) := dk_77 (dk_at dksJ13_copyOf_0 17 rfl rfl)
theorem dJ13_copyOf_18 : decode cJ13_copyOf 18 = .ok (.aload_n 0, 1) := dk_42 (dk_at dksJ13_copyOf_0 18 rfl rfl)
theorem dJ13_copyOf_19 : decode cJ13_copyOf 19 = .ok (.iconst 0, 1) := dk_3 (dk_at dksJ13_copyOf_0 19 rfl rfl)
theorem dJ13_copyOf_20 : decode cJ13_copyOf 20 = .ok (.aload_n 2, 1) := dk_44 (dk_at dksJ13_copyOf_0 20 rfl rfl)
theorem dJ13_copyOf_21 : decode cJ13_copyOf 21 = .ok (.iconst 0, 1) := dk_3 (dk_at dksJ13_copyOf_0 21 rfl rfl)
theorem dJ13_copyOf_22 : decode cJ13_copyOf 22 = .ok (.aload_n 0, 1) := dk_42 (dk_at dksJ13_copyOf_0 22 rfl rfl)
theorem dJ13_copyOf_23 : decode cJ13_copyOf 23 = .ok (.arraylength, 1) := dk_190 (dk_at dksJ13_copyOf_0 23 rfl rfl)
theorem dJ13_copyOf_24 : decode cJ13_copyOf 24 = .ok (.iload_n 1, 1) := dk_27 (dk_at dksJ13_copyOf_1 0 rfl rfl)
theorem dJ13_copyOf_25 : decode cJ13_copyOf 25 = .ok (.invokestatic 304, 3) := dk_184 1 48 (dk_at dksJ13_copyOf_1 1 rfl rfl)
theorem dJ13_copyOf_28 : decode cJ13_copyOf 28 = .ok (.invokestatic 150, 3) := dk_184 0 150 (dk_at dksJ13_copyOf_1 4 rfl rfl)
theorem dJ13_copyOf_31 : decode cJ13_copyOf 31 = .ok (.aload_n 2, 1) := dk_44 (dk_at dksJ13_copyOf_1 7 rfl rfl)
theorem dJ13_copyOf_32 : decode cJ13_copyOf 32 = .ok (.areturn, 1) := dk_176 (dk_at dksJ13_copyOf_1 8 rfl rfl)
def dkwJ13_copyOfRange_1 : List UInt8 := [176]
abbrev dktJ13_copyOfRange_1 : List UInt8 := dkwJ13_copyOfRange_1 ++ []
def dkwJ13_copyOfRange_0 : List UInt8 := [27, 154, 0, 9, 28, 42, 190, 159, 0, 10, 42, 27, 28, 184, 1, 83, 176, 42, 182, 1, 54, 192, 1, 55]
abbrev dktJ13_copyOfRange_0 : List UInt8 := dkwJ13_copyOfRange_0 ++ dktJ13_copyOfRange_1
theorem dksJ13_copyOfRange_0 : cJ13_copyOfRange.data.toList.drop 0 = dktJ13_copyOfRange_0 := by decide +kernel
theorem dksJ13_copyOfRange_1 : cJ13_copyOfRange.data.toList.drop 24 = dktJ13_copyOfRange_1 := dk_seg dksJ13_copyOfRange_0 24 rfl rfl
theorem dJ13_copyOfRange_0 : decode cJ13_copyOfRange 0 = .ok (.iload_n 1, 1) := dk_27 (dk_at dksJ13_copyOfRange_0 0 rfl rfl)
theorem dJ13_copyOfRange_1 : decode cJ13_copyOfRange 1 = .ok (.ifCond .ne 9, 3) := dk_154 0 9 (dk_at dksJ13_copyOfRange_0 1 rfl rfl)
theorem dJ13_copyOfRange_4 : decode cJ13_copyOfRange 4 = .ok (.iload_n 2, 1) := dk_28 (dk_at dksJ13_copyOfRange_0 4 rfl rfl)
theorem dJ13_copyOfRange_5 : decode cJ13_copyOfRange 5 = .ok (.aload_n 0, 1) := dk_42 (dk_at dksJ13_copyOfRange_0 5 rfl rfl)
theorem dJ13_copyOfRange_6 : decode cJ13_copyOfRange 6 = .ok (.arraylength, 1) := dk_190 (dk_at dksJ13_copyOfRange_0 6 rfl rfl)
theorem dJ13_copyOfRange_7 : decode cJ13_copyOfRange 7 = .ok (.if_icmp .eq 10, 3) := dk_159 0 10 (dk_at dksJ13_copyOfRange_0 7 rfl rfl)
theorem dJ13_copyOfRange_10 : decode cJ13_copyOfRange 10 = .ok (.aload_n 0, 1) := dk_42 (dk_at dksJ13_copyOfRange_0 10 rfl rfl)
theorem dJ13_copyOfRange_11 : decode cJ13_copyOfRange 11 = .ok (.iload_n 1, 1) := dk_27 (dk_at dksJ13_copyOfRange_0 11 rfl rfl)
theorem dJ13_copyOfRange_12 : decode cJ13_copyOfRange 12 = .ok (.iload_n 2, 1) := dk_28 (dk_at dksJ13_copyOfRange_0 12 rfl rfl)
theorem dJ13_copyOfRange_13 : decode cJ13_copyOfRange 13 = .ok (.invokestatic 339, 3) := dk_184 1 83 (dk_at dksJ13_copyOfRange_0 13 rfl rfl)
theorem dJ13_copyOfRange_16 : decode cJ13_copyOfRange 16 = .ok (.areturn, 1) := dk_176 (dk_at dksJ13_copyOfRange_0 16 rfl rfl)
theorem dJ13_copyOfRange_17 : decode cJ13_copyOfRange 17 = .ok (.aload_n 0, 1) := dk_42 (dk_at dksJ13_copyOfRange_0 17 rfl rfl)
theorem dJ13_copyOfRange_18 : decode cJ13_copyOfRange 18 = .ok (.invokevirtual 310, 3) := dk_182 1 54 (dk_at dksJ13_copyOfRange_0 18 rfl rfl)
theorem dJ13_copyOfRange_21 : decode cJ13_copyOfRange 21 = .ok (.checkcast 311, 3) := dk_192 1 55 (dk_at dksJ13_copyOfRange_0 21 rfl rfl)
theorem dJ13_copyOfRange_24 : decode cJ13_copyOfRange 24 = .ok (.areturn, 1) := dk_176 (dk_at dksJ13_copyOfRange_1 0 rfl rfl)
def dkwJ5_init_3_0 : List UInt8 := [42, 183, 0, 1, 42, 43, 181, 0, 9, 42, 28, 181, 0, 15, 177]
abbrev dktJ5_init_3_0 : List UInt8 := dkwJ5_init_3_0 ++ []
theorem dksJ5_init_3_0 : cJ5_init_3.data.toList.drop 0 = dktJ5_init_3_0 := by decide +kernel
theorem dJ5_init_3_0 : decode cJ5_init_3 0 = .ok (.aload_n 0, 1) := dk_42 (dk_at dksJ5_init_3_0 0 rfl rfl)
theorem dJ5_init_3_1 : decode cJ5_init_3 1 = .ok (.invokespecial 1, 3) := dk_183 0 1 (dk_at dksJ5_init_3_0 1 rfl rfl)
theorem dJ5_init_3_4 : decode cJ5_init_3 4 = .ok (.aload_n 0, 1) := dk_42 (dk_at dksJ5_init_3_0 4 rfl rfl)
theorem dJ5_init_3_5 : decode cJ5_init_3 5 = .ok (.aload_n 1, 1) := dk_43 (dk_at dksJ5_init_3_0 5 rfl rfl)
theorem dJ5_init_3_6 : decode cJ5_init_3 6 = .ok (.putfield 9, 3) := dk_181 0 9 (dk_at dksJ5_init_3_0 6 rfl rfl)
theorem dJ5_init_3_9 : decode cJ5_init_3 9 = .ok (.aload_n 0, 1) := dk_42 (dk_at dksJ5_init_3_0 9 rfl rfl)
theorem dJ5_init_3_10 : decode cJ5_init_3 10 = .ok (.iload_n 2, 1) := dk_28 (dk_at dksJ5_init_3_0 10 rfl rfl)
theorem dJ5_init_3_11 : decode cJ5_init_3 11 = .ok (.putfield 15, 3) := dk_181 0 15 (dk_at dksJ5_init_3_0 11 rfl rfl)
theorem dJ5_init_3_14 : decode cJ5_init_3 14 = .ok (.return_, 1) := dk_177 (dk_at dksJ5_init_3_0 14 rfl rfl)
def dkwJ15_newString_0 : List UInt8 := [28, 154, 0, 6, 18, 151, 176, 187, 0, 1, 89, 42, 27, 27, 28, 96, 184, 0, 232, 3, 183, 0, 112, 176]
abbrev dktJ15_newString_0 : List UInt8 := dkwJ15_newString_0 ++ []
theorem dksJ15_newString_0 : cJ15_newString.data.toList.drop 0 = dktJ15_newString_0 := by decide +kernel
theorem dJ15_newString_0 : decode cJ15_newString 0 = .ok (.iload_n 2, 1) := dk_28 (dk_at dksJ15_newString_0 0 rfl rfl)
theorem dJ15_newString_1 : decode cJ15_newString 1 = .ok (.ifCond .ne 6, 3) := dk_154 0 6 (dk_at dksJ15_newString_0 1 rfl rfl)
theorem dJ15_newString_4 : decode cJ15_newString 4 = .ok (.ldc 151, 2) := dk_18 151 (dk_at dksJ15_newString_0 4 rfl rfl)
theorem dJ15_newString_6 : decode cJ15_newString 6 = .ok (.areturn, 1) := dk_176 (dk_at dksJ15_newString_0 6 rfl rfl)
theorem dJ15_newString_7 : decode cJ15_newString 7 = .ok (.new 1, 3) := dk_187 0 1 (dk_at dksJ15_newString_0 7 rfl rfl)
theorem dJ15_newString_10 : decode cJ15_newString 10 = .ok (.dup, 1) := dk_89 (dk_at dksJ15_newString_0 10 rfl rfl)
theorem dJ15_newString_11 : decode cJ15_newString 11 = .ok (.aload_n 0, 1) := dk_42 (dk_at dksJ15_newString_0 11 rfl rfl)
theorem dJ15_newString_12 : decode cJ15_newString 12 = .ok (.iload_n 1, 1) := dk_27 (dk_at dksJ15_newString_0 12 rfl rfl)
theorem dJ15_newString_13 : decode cJ15_newString 13 = .ok (.iload_n 1, 1) := dk_27 (dk_at dksJ15_newString_0 13 rfl rfl)
theorem dJ15_newString_14 : decode cJ15_newString 14 = .ok (.iload_n 2, 1) := dk_28 (dk_at dksJ15_newString_0 14 rfl rfl)
theorem dJ15_newString_15 : decode cJ15_newString 15 = .ok (.iadd, 1) := dk_96 (dk_at dksJ15_newString_0 15 rfl rfl)
theorem dJ15_newString_16 : decode cJ15_newString 16 = .ok (.invokestatic 232, 3) := dk_184 0 232 (dk_at dksJ15_newString_0 16 rfl rfl)
theorem dJ15_newString_19 : decode cJ15_newString 19 = .ok (.iconst 0, 1) := dk_3 (dk_at dksJ15_newString_0 19 rfl rfl)
theorem dJ15_newString_20 : decode cJ15_newString 20 = .ok (.invokespecial 112, 3) := dk_183 0 112 (dk_at dksJ15_newString_0 20 rfl rfl)
theorem dJ15_newString_23 : decode cJ15_newString 23 = .ok (.areturn, 1) := dk_176 (dk_at dksJ15_newString_0 23 rfl rfl)
def dkwJ14_checkFromToIndex_0 : List UInt8 := [26, 155, 0, 13, 26, 27, 163, 0, 8, 27, 28, 164, 0, 11, 45, 26, 27, 28, 184, 0, 99, 191, 26, 172]
abbrev dktJ14_checkFromToIndex_0 : List UInt8 := dkwJ14_checkFromToIndex_0 ++ []
theorem dksJ14_checkFromToIndex_0 : cJ14_checkFromToIndex.data.toList.drop 0 = dktJ14_checkFromToIndex_0 := by decide +kernel
theorem dJ14_checkFromToIndex_0 : decode cJ14_checkFromToIndex 0 = .ok (.iload_n 0, 1) := dk_26 (dk_at dksJ14_checkFromToIndex_0 0 rfl rfl)
theorem dJ14_checkFromToIndex_1 : decode cJ14_checkFromToIndex 1 = .ok (.ifCond .lt 13, 3) := dk_155 0 13 (dk_at dksJ14_checkFromToIndex_0 1 rfl rfl)
theorem dJ14_checkFromToIndex_4 : decode cJ14_checkFromToIndex 4 = .ok (.iload_n 0, 1) := dk_26 (dk_at dksJ14_checkFromToIndex_0 4 rfl rfl)
theorem dJ14_checkFromToIndex_5 : decode cJ14_checkFromToIndex 5 = .ok (.iload_n 1, 1) := dk_27 (dk_at dksJ14_checkFromToIndex_0 5 rfl rfl)
theorem dJ14_checkFromToIndex_6 : decode cJ14_checkFromToIndex 6 = .ok (.if_icmp .gt 8, 3) := dk_163 0 8 (dk_at dksJ14_checkFromToIndex_0 6 rfl rfl)
theorem dJ14_checkFromToIndex_9 : decode cJ14_checkFromToIndex 9 = .ok (.iload_n 1, 1) := dk_27 (dk_at dksJ14_checkFromToIndex_0 9 rfl rfl)
theorem dJ14_checkFromToIndex_10 : decode cJ14_checkFromToIndex 10 = .ok (.iload_n 2, 1) := dk_28 (dk_at dksJ14_checkFromToIndex_0 10 rfl rfl)
theorem dJ14_checkFromToIndex_11 : decode cJ14_checkFromToIndex 11 = .ok (.if_icmp .le 11, 3) := dk_164 0 11 (dk_at dksJ14_checkFromToIndex_0 11 rfl rfl)
theorem dJ14_checkFromToIndex_14 : decode cJ14_checkFromToIndex 14 = .ok (.aload_n 3, 1) := dk_45 (dk_at dksJ14_checkFromToIndex_0 14 rfl rfl)
theorem dJ14_checkFromToIndex_15 : decode cJ14_checkFromToIndex 15 = .ok (.iload_n 0, 1) := dk_26 (dk_at dksJ14_checkFromToIndex_0 15 rfl rfl)
theorem dJ14_checkFromToIndex_16 : decode cJ14_checkFromToIndex 16 = .ok (.iload_n 1, 1) := dk_27 (dk_at dksJ14_checkFromToIndex_0 16 rfl rfl)
theorem dJ14_checkFromToIndex_17 : decode cJ14_checkFromToIndex 17 = .ok (.iload_n 2, 1) := dk_28 (dk_at dksJ14_checkFromToIndex_0 17 rfl rfl)
theorem dJ14_checkFromToIndex_18 : decode cJ14_checkFromToIndex 18 = .ok (.invokestatic 99, 3) := dk_184 0 99 (dk_at dksJ14_checkFromToIndex_0 18 rfl rfl)
theorem dJ14_checkFromToIndex_21 : decode cJ14_checkFromToIndex 21 = .ok (.athrow, 1) := dk_191 (dk_at dksJ14_checkFromToIndex_0 21 rfl rfl)
theorem dJ14_checkFromToIndex_22 : decode cJ14_checkFromToIndex 22 = .ok (.iload_n 0, 1) := dk_26 (dk_at dksJ14_checkFromToIndex_0 22 rfl rfl)
theorem dJ14_checkFromToIndex_23 : decode cJ14_checkFromToIndex 23 = .ok (.ireturn, 1) := dk_172 (dk_at dksJ14_checkFromToIndex_0 23 rfl rfl)
def dkwJ5_checkBoundsBeginEnd_0 : List UInt8 := [26, 27, 28, 178, 4, 29, 184, 4, 38, 87, 177]
abbrev dktJ5_checkBoundsBeginEnd_0 : List UInt8 := dkwJ5_checkBoundsBeginEnd_0 ++ []
theorem dksJ5_checkBoundsBeginEnd_0 : cJ5_checkBoundsBeginEnd.data.toList.drop 0 = dktJ5_checkBoundsBeginEnd_0 := by decide +kernel
theorem dJ5_checkBoundsBeginEnd_0 : decode cJ5_checkBoundsBeginEnd 0 = .ok (.iload_n 0, 1) := dk_26 (dk_at dksJ5_checkBoundsBeginEnd_0 0 rfl rfl)
theorem dJ5_checkBoundsBeginEnd_1 : decode cJ5_checkBoundsBeginEnd 1 = .ok (.iload_n 1, 1) := dk_27 (dk_at dksJ5_checkBoundsBeginEnd_0 1 rfl rfl)
theorem dJ5_checkBoundsBeginEnd_2 : decode cJ5_checkBoundsBeginEnd 2 = .ok (.iload_n 2, 1) := dk_28 (dk_at dksJ5_checkBoundsBeginEnd_0 2 rfl rfl)
theorem dJ5_checkBoundsBeginEnd_3 : decode cJ5_checkBoundsBeginEnd 3 = .ok (.getstatic 1053, 3) := dk_178 4 29 (dk_at dksJ5_checkBoundsBeginEnd_0 3 rfl rfl)
theorem dJ5_checkBoundsBeginEnd_6 : decode cJ5_checkBoundsBeginEnd 6 = .ok (.invokestatic 1062, 3) := dk_184 4 38 (dk_at dksJ5_checkBoundsBeginEnd_0 6 rfl rfl)
theorem dJ5_checkBoundsBeginEnd_9 : decode cJ5_checkBoundsBeginEnd 9 = .ok (.pop, 1) := dk_87 (dk_at dksJ5_checkBoundsBeginEnd_0 9 rfl rfl)
theorem dJ5_checkBoundsBeginEnd_10 : decode cJ5_checkBoundsBeginEnd 10 = .ok (.return_, 1) := dk_177 (dk_at dksJ5_checkBoundsBeginEnd_0 10 rfl rfl)
def dkwJ5_checkOffset_0 : List UInt8 := [26, 27, 27, 178, 4, 29, 184, 4, 38, 87, 177]
abbrev dktJ5_checkOffset_0 : List UInt8 := dkwJ5_checkOffset_0 ++ []
theorem dksJ5_checkOffset_0 : cJ5_checkOffset.data.toList.drop 0 = dktJ5_checkOffset_0 := by decide +kernel
theorem dJ5_checkOffset_0 : decode cJ5_checkOffset 0 = .ok (.iload_n 0, 1) := dk_26 (dk_at dksJ5_checkOffset_0 0 rfl rfl)
theorem dJ5_checkOffset_1 : decode cJ5_checkOffset 1 = .ok (.iload_n 1, 1) := dk_27 (dk_at dksJ5_checkOffset_0 1 rfl rfl)
theorem dJ5_checkOffset_2 : decode cJ5_checkOffset 2 = .ok (.iload_n 1, 1) := dk_27 (dk_at dksJ5_checkOffset_0 2 rfl rfl)
theorem dJ5_checkOffset_3 : decode cJ5_checkOffset 3 = .ok (.getstatic 1053, 3) := dk_178 4 29 (dk_at dksJ5_checkOffset_0 3 rfl rfl)
theorem dJ5_checkOffset_6 : decode cJ5_checkOffset 6 = .ok (.invokestatic 1062, 3) := dk_184 4 38 (dk_at dksJ5_checkOffset_0 6 rfl rfl)
theorem dJ5_checkOffset_9 : decode cJ5_checkOffset 9 = .ok (.pop, 1) := dk_87 (dk_at dksJ5_checkOffset_0 9 rfl rfl)
theorem dJ5_checkOffset_10 : decode cJ5_checkOffset 10 = .ok (.return_, 1) := dk_177 (dk_at dksJ5_checkOffset_0 10 rfl rfl)
def dkwJ5_substring_2 : List UInt8 := [180, 0, 9, 27, 21, 4, 184, 2, 177, 176]
abbrev dktJ5_substring_2 : List UInt8 := dkwJ5_substring_2 ++ []
def dkwJ5_substring_1 : List UInt8 := [100, 54, 4, 42, 182, 1, 236, 153, 0, 16, 42, 180, 0, 9, 27, 21, 4, 184, 2, 173, 167, 0, 13, 42]
abbrev dktJ5_substring_1 : List UInt8 := dkwJ5_substring_1 ++ dktJ5_substring_2
def dkwJ5_substring_0 : List UInt8 := [42, 182, 1, 249, 62, 27, 28, 29, 184, 2, 9, 27, 154, 0, 10, 28, 29, 160, 0, 5, 42, 176, 28, 27]
abbrev dktJ5_substring_0 : List UInt8 := dkwJ5_substring_0 ++ dktJ5_substring_1
theorem dksJ5_substring_0 : cJ5_substring.data.toList.drop 0 = dktJ5_substring_0 := by decide +kernel
theorem dksJ5_substring_1 : cJ5_substring.data.toList.drop 24 = dktJ5_substring_1 := dk_seg dksJ5_substring_0 24 rfl rfl
theorem dksJ5_substring_2 : cJ5_substring.data.toList.drop 48 = dktJ5_substring_2 := dk_seg dksJ5_substring_1 24 rfl rfl
theorem dJ5_substring_0 : decode cJ5_substring 0 = .ok (.aload_n 0, 1) := dk_42 (dk_at dksJ5_substring_0 0 rfl rfl)
theorem dJ5_substring_1 : decode cJ5_substring 1 = .ok (.invokevirtual 505, 3) := dk_182 1 249 (dk_at dksJ5_substring_0 1 rfl rfl)
theorem dJ5_substring_4 : decode cJ5_substring 4 = .ok (.istore_n 3, 1) := dk_62 (dk_at dksJ5_substring_0 4 rfl rfl)
theorem dJ5_substring_5 : decode cJ5_substring 5 = .ok (.iload_n 1, 1) := dk_27 (dk_at dksJ5_substring_0 5 rfl rfl)
theorem dJ5_substring_6 : decode cJ5_substring 6 = .ok (.iload_n 2, 1) := dk_28 (dk_at dksJ5_substring_0 6 rfl rfl)
theorem dJ5_substring_7 : decode cJ5_substring 7 = .ok (.iload_n 3, 1) := dk_29 (dk_at dksJ5_substring_0 7 rfl rfl)
theorem dJ5_substring_8 : decode cJ5_substring 8 = .ok (.invokestatic 521, 3) := dk_184 2 9 (dk_at dksJ5_substring_0 8 rfl rfl)
theorem dJ5_substring_11 : decode cJ5_substring 11 = .ok (.iload_n 1, 1) := dk_27 (dk_at dksJ5_substring_0 11 rfl rfl)
theorem dJ5_substring_12 : decode cJ5_substring 12 = .ok (.ifCond .ne 10, 3) := dk_154 0 10 (dk_at dksJ5_substring_0 12 rfl rfl)
theorem dJ5_substring_15 : decode cJ5_substring 15 = .ok (.iload_n 2, 1) := dk_28 (dk_at dksJ5_substring_0 15 rfl rfl)
theorem dJ5_substring_16 : decode cJ5_substring 16 = .ok (.iload_n 3, 1) := dk_29 (dk_at dksJ5_substring_0 16 rfl rfl)
theorem dJ5_substring_17 : decode cJ5_substring 17 = .ok (.if_icmp .ne 5, 3) := dk_160 0 5 (dk_at dksJ5_substring_0 17 rfl rfl)
theorem dJ5_substring_20 : decode cJ5_substring 20 = .ok (.aload_n 0, 1) := dk_42 (dk_at dksJ5_substring_0 20 rfl rfl)
theorem dJ5_substring_21 : decode cJ5_substring 21 = .ok (.areturn, 1) := dk_176 (dk_at dksJ5_substring_0 21 rfl rfl)
theorem dJ5_substring_22 : decode cJ5_substring 22 = .ok (.iload_n 2, 1) := dk_28 (dk_at dksJ5_substring_0 22 rfl rfl)
theorem dJ5_substring_23 : decode cJ5_substring 23 = .ok (.iload_n 1, 1) := dk_27 (dk_at dksJ5_substring_0 23 rfl rfl)
theorem dJ5_substring_24 : decode cJ5_substring 24 = .ok (.isub, 1) := dk_100 (dk_at dksJ5_substring_1 0 rfl rfl)
theorem dJ5_substring_25 : decode cJ5_substring 25 = .ok (.istore 4, 2) := dk_54 4 (dk_at dksJ5_substring_1 1 rfl rfl)
theorem dJ5_substring_27 : decode cJ5_substring 27 = .ok (.aload_n 0, 1) := dk_42 (dk_at dksJ5_substring_1 3 rfl rfl)
theorem dJ5_substring_28 : decode cJ5_substring 28 = .ok (.invokevirtual 492, 3) := dk_182 1 236 (dk_at dksJ5_substring_1 4 rfl rfl)
theorem dJ5_substring_31 : decode cJ5_substring 31 = .ok (.ifCond .eq 16, 3) := dk_153 0 16 (dk_at dksJ5_substring_1 7 rfl rfl)
theorem dJ5_substring_34 : decode cJ5_substring 34 = .ok (.aload_n 0, 1) := dk_42 (dk_at dksJ5_substring_1 10 rfl rfl)
theorem dJ5_substring_35 : decode cJ5_substring 35 = .ok (.getfield 9, 3) := dk_180 0 9 (dk_at dksJ5_substring_1 11 rfl rfl)
theorem dJ5_substring_38 : decode cJ5_substring 38 = .ok (.iload_n 1, 1) := dk_27 (dk_at dksJ5_substring_1 14 rfl rfl)
theorem dJ5_substring_39 : decode cJ5_substring 39 = .ok (.iload 4, 2) := dk_21 4 (dk_at dksJ5_substring_1 15 rfl rfl)
theorem dJ5_substring_41 : decode cJ5_substring 41 = .ok (.invokestatic 685, 3) := dk_184 2 173 (dk_at dksJ5_substring_1 17 rfl rfl)
theorem dJ5_substring_44 : decode cJ5_substring 44 = .ok (.goto 13, 3) := dk_167 0 13 (dk_at dksJ5_substring_1 20 rfl rfl)
theorem dJ5_substring_47 : decode cJ5_substring 47 = .ok (.aload_n 0, 1) := dk_42 (dk_at dksJ5_substring_1 23 rfl rfl)
theorem dJ5_substring_48 : decode cJ5_substring 48 = .ok (.getfield 9, 3) := dk_180 0 9 (dk_at dksJ5_substring_2 0 rfl rfl)
theorem dJ5_substring_51 : decode cJ5_substring 51 = .ok (.iload_n 1, 1) := dk_27 (dk_at dksJ5_substring_2 3 rfl rfl)
theorem dJ5_substring_52 : decode cJ5_substring 52 = .ok (.iload 4, 2) := dk_21 4 (dk_at dksJ5_substring_2 4 rfl rfl)
theorem dJ5_substring_54 : decode cJ5_substring 54 = .ok (.invokestatic 689, 3) := dk_184 2 177 (dk_at dksJ5_substring_2 6 rfl rfl)
theorem dJ5_substring_57 : decode cJ5_substring 57 = .ok (.areturn, 1) := dk_176 (dk_at dksJ5_substring_2 9 rfl rfl)
def dkwJ5_substring_2_0 : List UInt8 := [42, 27, 42, 182, 1, 249, 182, 2, 169, 176]
abbrev dktJ5_substring_2_0 : List UInt8 := dkwJ5_substring_2_0 ++ []
theorem dksJ5_substring_2_0 : cJ5_substring_2.data.toList.drop 0 = dktJ5_substring_2_0 := by decide +kernel
theorem dJ5_substring_2_0 : decode cJ5_substring_2 0 = .ok (.aload_n 0, 1) := dk_42 (dk_at dksJ5_substring_2_0 0 rfl rfl)
theorem dJ5_substring_2_1 : decode cJ5_substring_2 1 = .ok (.iload_n 1, 1) := dk_27 (dk_at dksJ5_substring_2_0 1 rfl rfl)
theorem dJ5_substring_2_2 : decode cJ5_substring_2 2 = .ok (.aload_n 0, 1) := dk_42 (dk_at dksJ5_substring_2_0 2 rfl rfl)
theorem dJ5_substring_2_3 : decode cJ5_substring_2 3 = .ok (.invokevirtual 505, 3) := dk_182 1 249 (dk_at dksJ5_substring_2_0 3 rfl rfl)
theorem dJ5_substring_2_6 : decode cJ5_substring_2 6 = .ok (.invokevirtual 681, 3) := dk_182 2 169 (dk_at dksJ5_substring_2_0 6 rfl rfl)
theorem dJ5_substring_2_9 : decode cJ5_substring_2 9 = .ok (.areturn, 1) := dk_176 (dk_at dksJ5_substring_2_0 9 rfl rfl)
def dkwJ15_equals_1 : List UInt8 := [3, 172, 132, 2, 1, 167, 255, 236, 4, 172, 3, 172]
abbrev dktJ15_equals_1 : List UInt8 := dkwJ15_equals_1 ++ []
def dkwJ15_equals_0 : List UInt8 := [42, 190, 43, 190, 160, 0, 30, 3, 61, 28, 42, 190, 162, 0, 20, 42, 28, 51, 43, 28, 51, 159, 0, 5]
abbrev dktJ15_equals_0 : List UInt8 := dkwJ15_equals_0 ++ dktJ15_equals_1
theorem dksJ15_equals_0 : cJ15_equals.data.toList.drop 0 = dktJ15_equals_0 := by decide +kernel
theorem dksJ15_equals_1 : cJ15_equals.data.toList.drop 24 = dktJ15_equals_1 := dk_seg dksJ15_equals_0 24 rfl rfl
theorem dJ15_equals_0 : decode cJ15_equals 0 = .ok (.aload_n 0, 1) := dk_42 (dk_at dksJ15_equals_0 0 rfl rfl)
theorem dJ15_equals_1 : decode cJ15_equals 1 = .ok (.arraylength, 1) := dk_190 (dk_at dksJ15_equals_0 1 rfl rfl)
theorem dJ15_equals_2 : decode cJ15_equals 2 = .ok (.aload_n 1, 1) := dk_43 (dk_at dksJ15_equals_0 2 rfl rfl)
theorem dJ15_equals_3 : decode cJ15_equals 3 = .ok (.arraylength, 1) := dk_190 (dk_at dksJ15_equals_0 3 rfl rfl)
theorem dJ15_equals_4 : decode cJ15_equals 4 = .ok (.if_icmp .ne 30, 3) := dk_160 0 30 (dk_at dksJ15_equals_0 4 rfl rfl)
theorem dJ15_equals_7 : decode cJ15_equals 7 = .ok (.iconst 0, 1) := dk_3 (dk_at dksJ15_equals_0 7 rfl rfl)
theorem dJ15_equals_8 : decode cJ15_equals 8 = .ok (.istore_n 2, 1) := dk_61 (dk_at dksJ15_equals_0 8 rfl rfl)
theorem dJ15_equals_9 : decode cJ15_equals 9 = .ok (.iload_n 2, 1) := dk_28 (dk_at dksJ15_equals_0 9 rfl rfl)
theorem dJ15_equals_10 : decode cJ15_equals 10 = .ok (.aload_n 0, 1) := dk_42 (dk_at dksJ15_equals_0 10 rfl rfl)
theorem dJ15_equals_11 : decode cJ15_equals 11 = .ok (.arraylength, 1) := dk_190 (dk_at dksJ15_equals_0 11 rfl rfl)
theorem dJ15_equals_12 : decode cJ15_equals 12 = .ok (.if_icmp .ge 20, 3) := dk_162 0 20 (dk_at dksJ15_equals_0 12 rfl rfl)
theorem dJ15_equals_15 : decode cJ15_equals 15 = .ok (.aload_n 0, 1) := dk_42 (dk_at dksJ15_equals_0 15 rfl rfl)
theorem dJ15_equals_16 : decode cJ15_equals 16 = .ok (.iload_n 2, 1) := dk_28 (dk_at dksJ15_equals_0 16 rfl rfl)
theorem dJ15_equals_17 : decode cJ15_equals 17 = .ok (.baload, 1) := dk_51 (dk_at dksJ15_equals_0 17 rfl rfl)
theorem dJ15_equals_18 : decode cJ15_equals 18 = .ok (.aload_n 1, 1) := dk_43 (dk_at dksJ15_equals_0 18 rfl rfl)
theorem dJ15_equals_19 : decode cJ15_equals 19 = .ok (.iload_n 2, 1) := dk_28 (dk_at dksJ15_equals_0 19 rfl rfl)
theorem dJ15_equals_20 : decode cJ15_equals 20 = .ok (.baload, 1) := dk_51 (dk_at dksJ15_equals_0 20 rfl rfl)
theorem dJ15_equals_21 : decode cJ15_equals 21 = .ok (.if_icmp .eq 5, 3) := dk_159 0 5 (dk_at dksJ15_equals_0 21 rfl rfl)
theorem dJ15_equals_24 : decode cJ15_equals 24 = .ok (.iconst 0, 1) := dk_3 (dk_at dksJ15_equals_1 0 rfl rfl)
theorem dJ15_equals_25 : decode cJ15_equals 25 = .ok (.ireturn, 1) := dk_172 (dk_at dksJ15_equals_1 1 rfl rfl)
theorem dJ15_equals_26 : decode cJ15_equals 26 = .ok (.iinc 2 1, 3) := dk_132 2 1 (dk_at dksJ15_equals_1 2 rfl rfl)
theorem dJ15_equals_29 : decode cJ15_equals 29 = .ok (.goto (-20), 3) := dk_167 255 236 (dk_at dksJ15_equals_1 5 rfl rfl)
theorem dJ15_equals_32 : decode cJ15_equals 32 = .ok (.iconst 1, 1) := dk_4 (dk_at dksJ15_equals_1 8 rfl rfl)
theorem dJ15_equals_33 : decode cJ15_equals 33 = .ok (.ireturn, 1) := dk_172 (dk_at dksJ15_equals_1 9 rfl rfl)
theorem dJ15_equals_34 : decode cJ15_equals 34 = .ok (.iconst 0, 1) := dk_3 (dk_at dksJ15_equals_1 10 rfl rfl)
theorem dJ15_equals_35 : decode cJ15_equals 35 = .ok (.ireturn, 1) := dk_172 (dk_at dksJ15_equals_1 11 rfl rfl)
def dkwJ5_equals_2 : List UInt8 := [184, 2, 29, 153, 0, 7, 4, 167, 0, 4, 3, 172]
abbrev dktJ5_equals_2 : List UInt8 := dkwJ5_equals_2 ++ []
def dkwJ5_equals_1 : List UInt8 := [153, 0, 14, 42, 180, 0, 15, 44, 180, 0, 15, 160, 0, 21, 42, 180, 0, 9, 44, 180, 0, 9]
abbrev dktJ5_equals_1 : List UInt8 := dkwJ5_equals_1 ++ dktJ5_equals_2
def dkwJ5_equals_0 : List UInt8 := [42, 43, 166, 0, 5, 4, 172, 43, 193, 0, 10, 153, 0, 43, 43, 192, 0, 10, 77, 178, 0, 38]
abbrev dktJ5_equals_0 : List UInt8 := dkwJ5_equals_0 ++ dktJ5_equals_1
theorem dksJ5_equals_0 : cJ5_equals.data.toList.drop 0 = dktJ5_equals_0 := by decide +kernel
theorem dksJ5_equals_1 : cJ5_equals.data.toList.drop 22 = dktJ5_equals_1 := dk_seg dksJ5_equals_0 22 rfl rfl
theorem dksJ5_equals_2 : cJ5_equals.data.toList.drop 44 = dktJ5_equals_2 := dk_seg dksJ5_equals_1 22 rfl rfl
theorem dJ5_equals_0 : decode cJ5_equals 0 = .ok (.aload_n 0, 1) := dk_42 (dk_at dksJ5_equals_0 0 rfl rfl)
theorem dJ5_equals_1 : decode cJ5_equals 1 = .ok (.aload_n 1, 1) := dk_43 (dk_at dksJ5_equals_0 1 rfl rfl)
theorem dJ5_equals_2 : decode cJ5_equals 2 = .ok (.if_acmp .ne 5, 3) := dk_166 0 5 (dk_at dksJ5_equals_0 2 rfl rfl)
theorem dJ5_equals_5 : decode cJ5_equals 5 = .ok (.iconst 1, 1) := dk_4 (dk_at dksJ5_equals_0 5 rfl rfl)
theorem dJ5_equals_6 : decode cJ5_equals 6 = .ok (.ireturn, 1) := dk_172 (dk_at dksJ5_equals_0 6 rfl rfl)
theorem dJ5_equals_7 : decode cJ5_equals 7 = .ok (.aload_n 1, 1) := dk_43 (dk_at dksJ5_equals_0 7 rfl rfl)
theorem dJ5_equals_8 : decode cJ5_equals 8 = .ok (.instanceof 10, 3) := dk_193 0 10 (dk_at dksJ5_equals_0 8 rfl rfl)
theorem dJ5_equals_11 : decode cJ5_equals 11 = .ok (.ifCond .eq 43, 3) := dk_153 0 43 (dk_at dksJ5_equals_0 11 rfl rfl)
theorem dJ5_equals_14 : decode cJ5_equals 14 = .ok (.aload_n 1, 1) := dk_43 (dk_at dksJ5_equals_0 14 rfl rfl)
theorem dJ5_equals_15 : decode cJ5_equals 15 = .ok (.checkcast 10, 3) := dk_192 0 10 (dk_at dksJ5_equals_0 15 rfl rfl)
theorem dJ5_equals_18 : decode cJ5_equals 18 = .ok (.astore_n 2, 1) := dk_77 (dk_at dksJ5_equals_0 18 rfl rfl)
theorem dJ5_equals_19 : decode cJ5_equals 19 = .ok (.getstatic 38, 3) := dk_178 0 38 (dk_at dksJ5_equals_0 19 rfl rfl)
theorem dJ5_equals_22 : decode cJ5_equals 22 = .ok (.ifCond .eq 14, 3) := dk_153 0 14 (dk_at dksJ5_equals_1 0 rfl rfl)
theorem dJ5_equals_25 : decode cJ5_equals 25 = .ok (.aload_n 0, 1) := dk_42 (dk_at dksJ5_equals_1 3 rfl rfl)
theorem dJ5_equals_26 : decode cJ5_equals 26 = .ok (.getfield 15, 3) := dk_180 0 15 (dk_at dksJ5_equals_1 4 rfl rfl)
theorem dJ5_equals_29 : decode cJ5_equals 29 = .ok (.aload_n 2, 1) := dk_44 (dk_at dksJ5_equals_1 7 rfl rfl)
theorem dJ5_equals_30 : decode cJ5_equals 30 = .ok (.getfield 15, 3) := dk_180 0 15 (dk_at dksJ5_equals_1 8 rfl rfl)
theorem dJ5_equals_33 : decode cJ5_equals 33 = .ok (.if_icmp .ne 21, 3) := dk_160 0 21 (dk_at dksJ5_equals_1 11 rfl rfl)
theorem dJ5_equals_36 : decode cJ5_equals 36 = .ok (.aload_n 0, 1) := dk_42 (dk_at dksJ5_equals_1 14 rfl rfl)
theorem dJ5_equals_37 : decode cJ5_equals 37 = .ok (.getfield 9, 3) := dk_180 0 9 (dk_at dksJ5_equals_1 15 rfl rfl)
theorem dJ5_equals_40 : decode cJ5_equals 40 = .ok (.aload_n 2, 1) := dk_44 (dk_at dksJ5_equals_1 18 rfl rfl)
theorem dJ5_equals_41 : decode cJ5_equals 41 = .ok (.getfield 9, 3) := dk_180 0 9 (dk_at dksJ5_equals_1 19 rfl rfl)
theorem dJ5_equals_44 : decode cJ5_equals 44 = .ok (.invokestatic 541, 3) := dk_184 2 29 (dk_at dksJ5_equals_2 0 rfl rfl)
theorem dJ5_equals_47 : decode cJ5_equals 47 = .ok (.ifCond .eq 7, 3) := dk_153 0 7 (dk_at dksJ5_equals_2 3 rfl rfl)
theorem dJ5_equals_50 : decode cJ5_equals 50 = .ok (.iconst 1, 1) := dk_4 (dk_at dksJ5_equals_2 6 rfl rfl)
theorem dJ5_equals_51 : decode cJ5_equals 51 = .ok (.goto 4, 3) := dk_167 0 4 (dk_at dksJ5_equals_2 7 rfl rfl)
theorem dJ5_equals_54 : decode cJ5_equals 54 = .ok (.iconst 0, 1) := dk_3 (dk_at dksJ5_equals_2 10 rfl rfl)
theorem dJ5_equals_55 : decode cJ5_equals 55 = .ok (.ireturn, 1) := dk_172 (dk_at dksJ5_equals_2 11 rfl rfl)
def dkwJ15_canEncode_0 : List UInt8 := [26, 155, 0, 14, 26, 17, 0, 255, 163, 0, 7, 4, 167, 0, 4, 3, 172]
abbrev dktJ15_canEncode_0 : List UInt8 := dkwJ15_canEncode_0 ++ []
theorem dksJ15_canEncode_0 : cJ15_canEncode.data.toList.drop 0 = dktJ15_canEncode_0 := by decide +kernel
theorem dJ15_canEncode_0 : decode cJ15_canEncode 0 = .ok (.iload_n 0, 1) := dk_26 (dk_at dksJ15_canEncode_0 0 rfl rfl)
theorem dJ15_canEncode_1 : decode cJ15_canEncode 1 = .ok (.ifCond .lt 14, 3) := dk_155 0 14 (dk_at dksJ15_canEncode_0 1 rfl rfl)
theorem dJ15_canEncode_4 : decode cJ15_canEncode 4 = .ok (.iload_n 0, 1) := dk_26 (dk_at dksJ15_canEncode_0 4 rfl rfl)
theorem dJ15_canEncode_5 : decode cJ15_canEncode 5 = .ok (.sipush 255, 3) := dk_17 0 255 (dk_at dksJ15_canEncode_0 5 rfl rfl)
theorem dJ15_canEncode_8 : decode cJ15_canEncode 8 = .ok (.if_icmp .gt 7, 3) := dk_163 0 7 (dk_at dksJ15_canEncode_0 8 rfl rfl)
theorem dJ15_canEncode_11 : decode cJ15_canEncode 11 = .ok (.iconst 1, 1) := dk_4 (dk_at dksJ15_canEncode_0 11 rfl rfl)
theorem dJ15_canEncode_12 : decode cJ15_canEncode 12 = .ok (.goto 4, 3) := dk_167 0 4 (dk_at dksJ15_canEncode_0 12 rfl rfl)
theorem dJ15_canEncode_15 : decode cJ15_canEncode 15 = .ok (.iconst 0, 1) := dk_3 (dk_at dksJ15_canEncode_0 15 rfl rfl)
theorem dJ15_canEncode_16 : decode cJ15_canEncode 16 = .ok (.ireturn, 1) := dk_172 (dk_at dksJ15_canEncode_0 16 rfl rfl)
def dkwJ15_canEncode_2_0 : List UInt8 := [26, 17, 0, 255, 163, 0, 7, 4, 167, 0, 4, 3, 172]
abbrev dktJ15_canEncode_2_0 : List UInt8 := dkwJ15_canEncode_2_0 ++ []
theorem dksJ15_canEncode_2_0 : cJ15_canEncode_2.data.toList.drop 0 = dktJ15_canEncode_2_0 := by decide +kernel
theorem dJ15_canEncode_2_0 : decode cJ15_canEncode_2 0 = .ok (.iload_n 0, 1) := dk_26 (dk_at dksJ15_canEncode_2_0 0 rfl rfl)
theorem dJ15_canEncode_2_1 : decode cJ15_canEncode_2 1 = .ok (.sipush 255, 3) := dk_17 0 255 (dk_at dksJ15_canEncode_2_0 1 rfl rfl)
theorem dJ15_canEncode_2_4 : decode cJ15_canEncode_2 4 = .ok (.if_icmp .gt 7, 3) := dk_163 0 7 (dk_at dksJ15_canEncode_2_0 4 rfl rfl)
theorem dJ15_canEncode_2_7 : decode cJ15_canEncode_2 7 = .ok (.iconst 1, 1) := dk_4 (dk_at dksJ15_canEncode_2_0 7 rfl rfl)
theorem dJ15_canEncode_2_8 : decode cJ15_canEncode_2 8 = .ok (.goto 4, 3) := dk_167 0 4 (dk_at dksJ15_canEncode_2_0 8 rfl rfl)
theorem dJ15_canEncode_2_11 : decode cJ15_canEncode_2 11 = .ok (.iconst 0, 1) := dk_3 (dk_at dksJ15_canEncode_2_0 11 rfl rfl)
theorem dJ15_canEncode_2_12 : decode cJ15_canEncode_2 12 = .ok (.ireturn, 1) := dk_172 (dk_at dksJ15_canEncode_2_0 12 rfl rfl)
def dkwJ15_indexOfChar_1 : List UInt8 := [172, 132, 5, 1, 167, 255, 235, 2, 172]
abbrev dktJ15_indexOfChar_1 : List UInt8 := dkwJ15_indexOfChar_1 ++ []
def dkwJ15_indexOfChar_0 : List UInt8 := [27, 145, 54, 4, 28, 54, 5, 21, 5, 29, 162, 0, 21, 42, 21, 5, 51, 21, 4, 160, 0, 6, 21, 5]
abbrev dktJ15_indexOfChar_0 : List UInt8 := dkwJ15_indexOfChar_0 ++ dktJ15_indexOfChar_1
theorem dksJ15_indexOfChar_0 : cJ15_indexOfChar.data.toList.drop 0 = dktJ15_indexOfChar_0 := by decide +kernel
theorem dksJ15_indexOfChar_1 : cJ15_indexOfChar.data.toList.drop 24 = dktJ15_indexOfChar_1 := dk_seg dksJ15_indexOfChar_0 24 rfl rfl
theorem dJ15_indexOfChar_0 : decode cJ15_indexOfChar 0 = .ok (.iload_n 1, 1) := dk_27 (dk_at dksJ15_indexOfChar_0 0 rfl rfl)
theorem dJ15_indexOfChar_1 : decode cJ15_indexOfChar 1 = .ok (.i2b, 1) := dk_145 (dk_at dksJ15_indexOfChar_0 1 rfl rfl)
theorem dJ15_indexOfChar_2 : decode cJ15_indexOfChar 2 = .ok (.istore 4, 2) := dk_54 4 (dk_at dksJ15_indexOfChar_0 2 rfl rfl)
theorem dJ15_indexOfChar_4 : decode cJ15_indexOfChar 4 = .ok (.iload_n 2, 1) := dk_28 (dk_at dksJ15_indexOfChar_0 4 rfl rfl)
theorem dJ15_indexOfChar_5 : decode cJ15_indexOfChar 5 = .ok (.istore 5, 2) := dk_54 5 (dk_at dksJ15_indexOfChar_0 5 rfl rfl)
theorem dJ15_indexOfChar_7 : decode cJ15_indexOfChar 7 = .ok (.iload 5, 2) := dk_21 5 (dk_at dksJ15_indexOfChar_0 7 rfl rfl)
theorem dJ15_indexOfChar_9 : decode cJ15_indexOfChar 9 = .ok (.iload_n 3, 1) := dk_29 (dk_at dksJ15_indexOfChar_0 9 rfl rfl)
theorem dJ15_indexOfChar_10 : decode cJ15_indexOfChar 10 = .ok (.if_icmp .ge 21, 3) := dk_162 0 21 (dk_at dksJ15_indexOfChar_0 10 rfl rfl)
theorem dJ15_indexOfChar_13 : decode cJ15_indexOfChar 13 = .ok (.aload_n 0, 1) := dk_42 (dk_at dksJ15_indexOfChar_0 13 rfl rfl)
theorem dJ15_indexOfChar_14 : decode cJ15_indexOfChar 14 = .ok (.iload 5, 2) := dk_21 5 (dk_at dksJ15_indexOfChar_0 14 rfl rfl)
theorem dJ15_indexOfChar_16 : decode cJ15_indexOfChar 16 = .ok (.baload, 1) := dk_51 (dk_at dksJ15_indexOfChar_0 16 rfl rfl)
theorem dJ15_indexOfChar_17 : decode cJ15_indexOfChar 17 = .ok (.iload 4, 2) := dk_21 4 (dk_at dksJ15_indexOfChar_0 17 rfl rfl)
theorem dJ15_indexOfChar_19 : decode cJ15_indexOfChar 19 = .ok (.if_icmp .ne 6, 3) := dk_160 0 6 (dk_at dksJ15_indexOfChar_0 19 rfl rfl)
theorem dJ15_indexOfChar_22 : decode cJ15_indexOfChar 22 = .ok (.iload 5, 2) := dk_21 5 (dk_at dksJ15_indexOfChar_0 22 rfl rfl)
theorem dJ15_indexOfChar_24 : decode cJ15_indexOfChar 24 = .ok (.ireturn, 1) := dk_172 (dk_at dksJ15_indexOfChar_1 0 rfl rfl)
theorem dJ15_indexOfChar_25 : decode cJ15_indexOfChar 25 = .ok (.iinc 5 1, 3) := dk_132 5 1 (dk_at dksJ15_indexOfChar_1 1 rfl rfl)
theorem dJ15_indexOfChar_28 : decode cJ15_indexOfChar 28 = .ok (.goto (-21), 3) := dk_167 255 235 (dk_at dksJ15_indexOfChar_1 4 rfl rfl)
theorem dJ15_indexOfChar_31 : decode cJ15_indexOfChar 31 = .ok (.iconst (-1), 1) := dk_2 (dk_at dksJ15_indexOfChar_1 7 rfl rfl)
theorem dJ15_indexOfChar_32 : decode cJ15_indexOfChar 32 = .ok (.ireturn, 1) := dk_172 (dk_at dksJ15_indexOfChar_1 8 rfl rfl)
def dkwJ15_indexOf_1 : List UInt8 := [161, 0, 5, 2, 172, 42, 27, 28, 29, 184, 0, 95, 172]
abbrev dktJ15_indexOf_1 : List UInt8 := dkwJ15_indexOf_1 ++ []
def dkwJ15_indexOf_0 : List UInt8 := [27, 184, 0, 88, 154, 0, 5, 2, 172, 28, 3, 184, 0, 92, 61, 29, 42, 190, 184, 0, 38, 62, 28, 29]
abbrev dktJ15_indexOf_0 : List UInt8 := dkwJ15_indexOf_0 ++ dktJ15_indexOf_1
theorem dksJ15_indexOf_0 : cJ15_indexOf.data.toList.drop 0 = dktJ15_indexOf_0 := by decide +kernel
theorem dksJ15_indexOf_1 : cJ15_indexOf.data.toList.drop 24 = dktJ15_indexOf_1 := dk_seg dksJ15_indexOf_0 24 rfl rfl
theorem dJ15_indexOf_0 : decode cJ15_indexOf 0 = .ok (.iload_n 1, 1) := dk_27 (dk_at dksJ15_indexOf_0 0 rfl rfl)
theorem dJ15_indexOf_1 : decode cJ15_indexOf 1 = .ok (.invokestatic 88, 3) := dk_184 0 88 (dk_at dksJ15_indexOf_0 1 rfl rfl)
theorem dJ15_indexOf_4 : decode cJ15_indexOf 4 = .ok (.ifCond .ne 5, 3) := dk_154 0 5 (dk_at dksJ15_indexOf_0 4 rfl rfl)
theorem dJ15_indexOf_7 : decode cJ15_indexOf 7 = .ok (.iconst (-1), 1) := dk_2 (dk_at dksJ15_indexOf_0 7 rfl rfl)
theorem dJ15_indexOf_8 : decode cJ15_indexOf 8 = .ok (.ireturn, 1) := dk_172 (dk_at dksJ15_indexOf_0 8 rfl rfl)
theorem dJ15_indexOf_9 : decode cJ15_indexOf 9 = .ok (.iload_n 2, 1) := dk_28 (dk_at dksJ15_indexOf_0 9 rfl rfl)
theorem dJ15_indexOf_10 : decode cJ15_indexOf 10 = .ok (.iconst 0, 1) := dk_3 (dk_at dksJ15_indexOf_0 10 rfl rfl)
theorem dJ15_indexOf_11 : decode cJ15_indexOf 11 = .ok (.invokestatic 92, 3) := dk_184 0 92 (dk_at dksJ15_indexOf_0 11 rfl rfl)
theorem dJ15_indexOf_14 : decode cJ15_indexOf 14 = .ok (.istore_n 2, 1) := dk_61 (dk_at dksJ15_indexOf_0 14 rfl rfl)
theorem dJ15_indexOf_15 : decode cJ15_indexOf 15 = .ok (.iload_n 3, 1) := dk_29 (dk_at dksJ15_indexOf_0 15 rfl rfl)
theorem dJ15_indexOf_16 : decode cJ15_indexOf 16 = .ok (.aload_n 0, 1) := dk_42 (dk_at dksJ15_indexOf_0 16 rfl rfl)
theorem dJ15_indexOf_17 : decode cJ15_indexOf 17 = .ok (.arraylength, 1) := dk_190 (dk_at dksJ15_indexOf_0 17 rfl rfl)
theorem dJ15_indexOf_18 : decode cJ15_indexOf 18 = .ok (.invokestatic 38, 3) := dk_184 0 38 (dk_at dksJ15_indexOf_0 18 rfl rfl)
theorem dJ15_indexOf_21 : decode cJ15_indexOf 21 = .ok (.istore_n 3, 1) := dk_62 (dk_at dksJ15_indexOf_0 21 rfl rfl)
theorem dJ15_indexOf_22 : decode cJ15_indexOf 22 = .ok (.iload_n 2, 1) := dk_28 (dk_at dksJ15_indexOf_0 22 rfl rfl)
theorem dJ15_indexOf_23 : decode cJ15_indexOf 23 = .ok (.iload_n 3, 1) := dk_29 (dk_at dksJ15_indexOf_0 23 rfl rfl)
theorem dJ15_indexOf_24 : decode cJ15_indexOf 24 = .ok (.if_icmp .lt 5, 3) := dk_161 0 5 (dk_at dksJ15_indexOf_1 0 rfl rfl)
theorem dJ15_indexOf_27 : decode cJ15_indexOf 27 = .ok (.iconst (-1), 1) := dk_2 (dk_at dksJ15_indexOf_1 3 rfl rfl)
theorem dJ15_indexOf_28 : decode cJ15_indexOf 28 = .ok (.ireturn, 1) := dk_172 (dk_at dksJ15_indexOf_1 4 rfl rfl)
theorem dJ15_indexOf_29 : decode cJ15_indexOf 29 = .ok (.aload_n 0, 1) := dk_42 (dk_at dksJ15_indexOf_1 5 rfl rfl)
theorem dJ15_indexOf_30 : decode cJ15_indexOf 30 = .ok (.iload_n 1, 1) := dk_27 (dk_at dksJ15_indexOf_1 6 rfl rfl)
theorem dJ15_indexOf_31 : decode cJ15_indexOf 31 = .ok (.iload_n 2, 1) := dk_28 (dk_at dksJ15_indexOf_1 7 rfl rfl)
theorem dJ15_indexOf_32 : decode cJ15_indexOf 32 = .ok (.iload_n 3, 1) := dk_29 (dk_at dksJ15_indexOf_1 8 rfl rfl)
theorem dJ15_indexOf_33 : decode cJ15_indexOf 33 = .ok (.invokestatic 95, 3) := dk_184 0 95 (dk_at dksJ15_indexOf_1 9 rfl rfl)
theorem dJ15_indexOf_36 : decode cJ15_indexOf 36 = .ok (.ireturn, 1) := dk_172 (dk_at dksJ15_indexOf_1 12 rfl rfl)
def dkwJ5_indexOf_2_1 : List UInt8 := [180, 0, 9, 27, 28, 42, 182, 1, 249, 184, 2, 128, 172]
abbrev dktJ5_indexOf_2_1 : List UInt8 := dkwJ5_indexOf_2_1 ++ []
def dkwJ5_indexOf_2_0 : List UInt8 := [42, 182, 1, 236, 153, 0, 19, 42, 180, 0, 9, 27, 28, 42, 182, 1, 249, 184, 2, 125, 167, 0, 16, 42]
abbrev dktJ5_indexOf_2_0 : List UInt8 := dkwJ5_indexOf_2_0 ++ dktJ5_indexOf_2_1
theorem dksJ5_indexOf_2_0 : cJ5_indexOf_2.data.toList.drop 0 = dktJ5_indexOf_2_0 := by decide +kernel
theorem dksJ5_indexOf_2_1 : cJ5_indexOf_2.data.toList.drop 24 = dktJ5_indexOf_2_1 := dk_seg dksJ5_indexOf_2_0 24 rfl rfl
theorem dJ5_indexOf_2_0 : decode cJ5_indexOf_2 0 = .ok (.aload_n 0, 1) := dk_42 (dk_at dksJ5_indexOf_2_0 0 rfl rfl)
theorem dJ5_indexOf_2_1 : decode cJ5_indexOf_2 1 = .ok (.invokevirtual 492, 3) := dk_182 1 236 (dk_at dksJ5_indexOf_2_0 1 rfl rfl)
theorem dJ5_indexOf_2_4 : decode cJ5_indexOf_2 4 = .ok (.ifCond .eq 19, 3) := dk_153 0 19 (dk_at dksJ5_indexOf_2_0 4 rfl rfl)
theorem dJ5_indexOf_2_7 : decode cJ5_indexOf_2 7 = .ok (.aload_n 0, 1) := dk_42 (dk_at dksJ5_indexOf_2_0 7 rfl rfl)
theorem dJ5_indexOf_2_8 : decode cJ5_indexOf_2 8 = .ok (.getfield 9, 3) := dk_180 0 9 (dk_at dksJ5_indexOf_2_0 8 rfl rfl)
theorem dJ5_indexOf_2_11 : decode cJ5_indexOf_2 11 = .ok (.iload_n 1, 1) := dk_27 (dk_at dksJ5_indexOf_2_0 11 rfl rfl)
theorem dJ5_indexOf_2_12 : decode cJ5_indexOf_2 12 = .ok (.iload_n 2, 1) := dk_28 (dk_at dksJ5_indexOf_2_0 12 rfl rfl)
theorem dJ5_indexOf_2_13 : decode cJ5_indexOf_2 13 = .ok (.aload_n 0, 1) := dk_42 (dk_at dksJ5_indexOf_2_0 13 rfl rfl)
theorem dJ5_indexOf_2_14 : decode cJ5_indexOf_2 14 = .ok (.invokevirtual 505, 3) := dk_182 1 249 (dk_at dksJ5_indexOf_2_0 14 rfl rfl)
theorem dJ5_indexOf_2_17 : decode cJ5_indexOf_2 17 = .ok (.invokestatic 637, 3) := dk_184 2 125 (dk_at dksJ5_indexOf_2_0 17 rfl rfl)
theorem dJ5_indexOf_2_20 : decode cJ5_indexOf_2 20 = .ok (.goto 16, 3) := dk_167 0 16 (dk_at dksJ5_indexOf_2_0 20 rfl rfl)
theorem dJ5_indexOf_2_23 : decode cJ5_indexOf_2 23 = .ok (.aload_n 0, 1) := dk_42 (dk_at dksJ5_indexOf_2_0 23 rfl rfl)
theorem dJ5_indexOf_2_24 : decode cJ5_indexOf_2 24 = .ok (.getfield 9, 3) := dk_180 0 9 (dk_at dksJ5_indexOf_2_1 0 rfl rfl)
theorem dJ5_indexOf_2_27 : decode cJ5_indexOf_2 27 = .ok (.iload_n 1, 1) := dk_27 (dk_at dksJ5_indexOf_2_1 3 rfl rfl)
theorem dJ5_indexOf_2_28 : decode cJ5_indexOf_2 28 = .ok (.iload_n 2, 1) := dk_28 (dk_at dksJ5_indexOf_2_1 4 rfl rfl)
theorem dJ5_indexOf_2_29 : decode cJ5_indexOf_2 29 = .ok (.aload_n 0, 1) := dk_42 (dk_at dksJ5_indexOf_2_1 5 rfl rfl)
theorem dJ5_indexOf_2_30 : decode cJ5_indexOf_2 30 = .ok (.invokevirtual 505, 3) := dk_182 1 249 (dk_at dksJ5_indexOf_2_1 6 rfl rfl)
theorem dJ5_indexOf_2_33 : decode cJ5_indexOf_2 33 = .ok (.invokestatic 640, 3) := dk_184 2 128 (dk_at dksJ5_indexOf_2_1 9 rfl rfl)
theorem dJ5_indexOf_2_36 : decode cJ5_indexOf_2 36 = .ok (.ireturn, 1) := dk_172 (dk_at dksJ5_indexOf_2_1 12 rfl rfl)
def dkwJ5_indexOf_0 : List UInt8 := [42, 27, 3, 182, 2, 121, 172]
abbrev dktJ5_indexOf_0 : List UInt8 := dkwJ5_indexOf_0 ++ []
theorem dksJ5_indexOf_0 : cJ5_indexOf.data.toList.drop 0 = dktJ5_indexOf_0 := by decide +kernel
theorem dJ5_indexOf_0 : decode cJ5_indexOf 0 = .ok (.aload_n 0, 1) := dk_42 (dk_at dksJ5_indexOf_0 0 rfl rfl)
theorem dJ5_indexOf_1 : decode cJ5_indexOf 1 = .ok (.iload_n 1, 1) := dk_27 (dk_at dksJ5_indexOf_0 1 rfl rfl)
theorem dJ5_indexOf_2 : decode cJ5_indexOf 2 = .ok (.iconst 0, 1) := dk_3 (dk_at dksJ5_indexOf_0 2 rfl rfl)
theorem dJ5_indexOf_3 : decode cJ5_indexOf 3 = .ok (.invokevirtual 633, 3) := dk_182 2 121 (dk_at dksJ5_indexOf_0 3 rfl rfl)
theorem dJ5_indexOf_6 : decode cJ5_indexOf 6 = .ok (.ireturn, 1) := dk_172 (dk_at dksJ5_indexOf_0 6 rfl rfl)
def dkwJ11_mismatch_4 : List UInt8 := [132, 5, 1, 167, 255, 228, 2, 172]
abbrev dktJ11_mismatch_4 : List UInt8 := dkwJ11_mismatch_4 ++ []
def dkwJ11_mismatch_3 : List UInt8 := [21, 4, 162, 0, 27, 42, 27, 21, 5, 96, 51, 44, 29, 21, 5, 96, 51, 159, 0, 6, 21, 5, 172]
abbrev dktJ11_mismatch_3 : List UInt8 := dkwJ11_mismatch_3 ++ dktJ11_mismatch_4
def dkwJ11_mismatch_2 : List UInt8 := [184, 0, 122, 54, 5, 21, 5, 155, 0, 6, 21, 5, 172, 21, 4, 21, 5, 2, 130, 100, 54, 5, 21, 5]
abbrev dktJ11_mismatch_2 : List UInt8 := dkwJ11_mismatch_2 ++ dktJ11_mismatch_3
def dkwJ11_mismatch_1 : List UInt8 := [27, 96, 54, 6, 178, 0, 126, 29, 96, 54, 7, 42, 21, 6, 133, 44, 21, 7, 133, 21, 4, 178, 0, 129]
abbrev dktJ11_mismatch_1 : List UInt8 := dkwJ11_mismatch_1 ++ dktJ11_mismatch_2
def dkwJ11_mismatch_0 : List UInt8 := [3, 54, 5, 21, 4, 16, 7, 164, 0, 63, 42, 27, 51, 44, 29, 51, 159, 0, 5, 3, 172, 178, 0, 126]
abbrev dktJ11_mismatch_0 : List UInt8 := dkwJ11_mismatch_0 ++ dktJ11_mismatch_1
theorem dksJ11_mismatch_0 : cJ11_mismatch.data.toList.drop 0 = dktJ11_mismatch_0 := by decide +kernel
theorem dksJ11_mismatch_1 : cJ11_mismatch.data.toList.drop 24 = dktJ11_mismatch_1 := dk_seg dksJ11_mismatch_0 24 rfl rfl
theorem dksJ11_mismatch_2 : cJ11_mismatch.data.toList.drop 48 = dktJ11_mismatch_2 := dk_seg dksJ11_mismatch_1 24 rfl rfl
theorem dksJ11_mismatch_3 : cJ11_mismatch.data.toList.drop 72 = dktJ11_mismatch_3 := dk_seg dksJ11_mismatch_2 24 rfl rfl
theorem dksJ11_mismatch_4 : cJ11_mismatch.data.toList.drop 95 = dktJ11_mismatch_4 := dk_seg dksJ11_mismatch_3 23 rfl rfl
theorem dJ11_mismatch_0 : decode cJ11_mismatch 0 = .ok (.iconst 0, 1) := dk_3 (dk_at dksJ11_mismatch_0 0 rfl rfl)
theorem dJ11_mismatch_1 : decode cJ11_mismatch 1 = .ok (.istore 5, 2) := dk_54 5 (dk_at dksJ11_mismatch_0 1 rfl rfl)
theorem dJ11_mismatch_3 : decode cJ11_mismatch 3 = .ok (.iload 4, 2) := dk_21 4 (dk_at dksJ11_mismatch_0 3 rfl rfl)
theorem dJ11_mismatch_5 : decode cJ11_mismatch 5 = .ok (.bipush 7, 2) := dk_16 7 (dk_at dksJ11_mismatch_0 5 rfl rfl)
theorem dJ11_mismatch_7 : decode cJ11_mismatch 7 = .ok (.if_icmp .le 63, 3) := dk_164 0 63 (dk_at dksJ11_mismatch_0 7 rfl rfl)
theorem dJ11_mismatch_10 : decode cJ11_mismatch 10 = .ok (.aload_n 0, 1) := dk_42 (dk_at dksJ11_mismatch_0 10 rfl rfl)
theorem dJ11_mismatch_11 : decode cJ11_mismatch 11 = .ok (.iload_n 1, 1) := dk_27 (dk_at dksJ11_mismatch_0 11 rfl rfl)
theorem dJ11_mismatch_12 : decode cJ11_mismatch 12 = .ok (.baload, 1) := dk_51 (dk_at dksJ11_mismatch_0 12 rfl rfl)
theorem dJ11_mismatch_13 : decode cJ11_mismatch 13 = .ok (.aload_n 2, 1) := dk_44 (dk_at dksJ11_mismatch_0 13 rfl rfl)
theorem dJ11_mismatch_14 : decode cJ11_mismatch 14 = .ok (.iload_n 3, 1) := dk_29 (dk_at dksJ11_mismatch_0 14 rfl rfl)
theorem dJ11_mismatch_15 : decode cJ11_mismatch 15 = .ok (.baload, 1) := dk_51 (dk_at dksJ11_mismatch_0 15 rfl rfl)
theorem dJ11_mismatch_16 : decode cJ11_mismatch 16 = .ok (.if_icmp .eq 5, 3) := dk_159 0 5 (dk_at dksJ11_mismatch_0 16 rfl rfl)
theorem dJ11_mismatch_19 : decode cJ11_mismatch 19 = .ok (.iconst 0, 1) := dk_3 (dk_at dksJ11_mismatch_0 19 rfl rfl)
theorem dJ11_mismatch_20 : decode cJ11_mismatch 20 = .ok (.ireturn, 1) := dk_172 (dk_at dksJ11_mismatch_0 20 rfl rfl)
theorem dJ11_mismatch_21 : decode cJ11_mismatch 21 = .ok (.getstatic 126, 3) := dk_178 0 126 (dk_at dksJ11_mismatch_0 21 rfl rfl)
theorem dJ11_mismatch_24 : decode cJ11_mismatch 24 = .ok (.iload_n 1, 1) := dk_27 (dk_at dksJ11_mismatch_1 0 rfl rfl)
theorem dJ11_mismatch_25 : decode cJ11_mismatch 25 = .ok (.iadd, 1) := dk_96 (dk_at dksJ11_mismatch_1 1 rfl rfl)
theorem dJ11_mismatch_26 : decode cJ11_mismatch 26 = .ok (.istore 6, 2) := dk_54 6 (dk_at dksJ11_mismatch_1 2 rfl rfl)
theorem dJ11_mismatch_28 : decode cJ11_mismatch 28 = .ok (.getstatic 126, 3) := dk_178 0 126 (dk_at dksJ11_mismatch_1 4 rfl rfl)
theorem dJ11_mismatch_31 : decode cJ11_mismatch 31 = .ok (.iload_n 3, 1) := dk_29 (dk_at dksJ11_mismatch_1 7 rfl rfl)
theorem dJ11_mismatch_32 : decode cJ11_mismatch 32 = .ok (.iadd, 1) := dk_96 (dk_at dksJ11_mismatch_1 8 rfl rfl)
theorem dJ11_mismatch_33 : decode cJ11_mismatch 33 = .ok (.istore 7, 2) := dk_54 7 (dk_at dksJ11_mismatch_1 9 rfl rfl)
theorem dJ11_mismatch_35 : decode cJ11_mismatch 35 = .ok (.aload_n 0, 1) := dk_42 (dk_at dksJ11_mismatch_1 11 rfl rfl)
theorem dJ11_mismatch_36 : decode cJ11_mismatch 36 = .ok (.iload 6, 2) := dk_21 6 (dk_at dksJ11_mismatch_1 12 rfl rfl)
theorem dJ11_mismatch_38 : decode cJ11_mismatch 38 = .ok (.i2l, 1) := dk_133 (dk_at dksJ11_mismatch_1 14 rfl rfl)
theorem dJ11_mismatch_39 : decode cJ11_mismatch 39 = .ok (.aload_n 2, 1) := dk_44 (dk_at dksJ11_mismatch_1 15 rfl rfl)
theorem dJ11_mismatch_40 : decode cJ11_mismatch 40 = .ok (.iload 7, 2) := dk_21 7 (dk_at dksJ11_mismatch_1 16 rfl rfl)
theorem dJ11_mismatch_42 : decode cJ11_mismatch 42 = .ok (.i2l, 1) := dk_133 (dk_at dksJ11_mismatch_1 18 rfl rfl)
theorem dJ11_mismatch_43 : decode cJ11_mismatch 43 = .ok (.iload 4, 2) := dk_21 4 (dk_at dksJ11_mismatch_1 19 rfl rfl)
theorem dJ11_mismatch_45 : decode cJ11_mismatch 45 = .ok (.getstatic 129, 3) := dk_178 0 129 (dk_at dksJ11_mismatch_1 21 rfl rfl)
theorem dJ11_mismatch_48 : decode cJ11_mismatch 48 = .ok (.invokestatic 122, 3) := dk_184 0 122 (dk_at dksJ11_mismatch_2 0 rfl rfl)
theorem dJ11_mismatch_51 : decode cJ11_mismatch 51 = .ok (.istore 5, 2) := dk_54 5 (dk_at dksJ11_mismatch_2 3 rfl rfl)
theorem dJ11_mismatch_53 : decode cJ11_mismatch 53 = .ok (.iload 5, 2) := dk_21 5 (dk_at dksJ11_mismatch_2 5 rfl rfl)
theorem dJ11_mismatch_55 : decode cJ11_mismatch 55 = .ok (.ifCond .lt 6, 3) := dk_155 0 6 (dk_at dksJ11_mismatch_2 7 rfl rfl)
theorem dJ11_mismatch_58 : decode cJ11_mismatch 58 = .ok (.iload 5, 2) := dk_21 5 (dk_at dksJ11_mismatch_2 10 rfl rfl)
theorem dJ11_mismatch_60 : decode cJ11_mismatch 60 = .ok (.ireturn, 1) := dk_172 (dk_at dksJ11_mismatch_2 12 rfl rfl)
theorem dJ11_mismatch_61 : decode cJ11_mismatch 61 = .ok (.iload 4, 2) := dk_21 4 (dk_at dksJ11_mismatch_2 13 rfl rfl)
theorem dJ11_mismatch_63 : decode cJ11_mismatch 63 = .ok (.iload 5, 2) := dk_21 5 (dk_at dksJ11_mismatch_2 15 rfl rfl)
theorem dJ11_mismatch_65 : decode cJ11_mismatch 65 = .ok (.iconst (-1), 1) := dk_2 (dk_at dksJ11_mismatch_2 17 rfl rfl)
theorem dJ11_mismatch_66 : decode cJ11_mismatch 66 = .ok (.ixor, 1) := dk_130 (dk_at dksJ11_mismatch_2 18 rfl rfl)
theorem dJ11_mismatch_67 : decode cJ11_mismatch 67 = .ok (.isub, 1) := dk_100 (dk_at dksJ11_mismatch_2 19 rfl rfl)
theorem dJ11_mismatch_68 : decode cJ11_mismatch 68 = .ok (.istore 5, 2) := dk_54 5 (dk_at dksJ11_mismatch_2 20 rfl rfl)
theorem dJ11_mismatch_70 : decode cJ11_mismatch 70 = .ok (.iload 5, 2) := dk_21 5 (dk_at dksJ11_mismatch_2 22 rfl rfl)
theorem dJ11_mismatch_72 : decode cJ11_mismatch 72 = .ok (.iload 4, 2) := dk_21 4 (dk_at dksJ11_mismatch_3 0 rfl rfl)
theorem dJ11_mismatch_74 : decode cJ11_mismatch 74 = .ok (.if_icmp .ge 27, 3) := dk_162 0 27 (dk_at dksJ11_mismatch_3 2 rfl rfl)
theorem dJ11_mismatch_77 : decode cJ11_mismatch 77 = .ok (.aload_n 0, 1) := dk_42 (dk_at dksJ11_mismatch_3 5 rfl rfl)
theorem dJ11_mismatch_78 : decode cJ11_mismatch 78 = .ok (.iload_n 1, 1) := dk_27 (dk_at dksJ11_mismatch_3 6 rfl rfl)
theorem dJ11_mismatch_79 : decode cJ11_mismatch 79 = .ok (.iload 5, 2) := dk_21 5 (dk_at dksJ11_mismatch_3 7 rfl rfl)
theorem dJ11_mismatch_81 : decode cJ11_mismatch 81 = .ok (.iadd, 1) := dk_96 (dk_at dksJ11_mismatch_3 9 rfl rfl)
theorem dJ11_mismatch_82 : decode cJ11_mismatch 82 = .ok (.baload, 1) := dk_51 (dk_at dksJ11_mismatch_3 10 rfl rfl)
theorem dJ11_mismatch_83 : decode cJ11_mismatch 83 = .ok (.aload_n 2, 1) := dk_44 (dk_at dksJ11_mismatch_3 11 rfl rfl)
theorem dJ11_mismatch_84 : decode cJ11_mismatch 84 = .ok (.iload_n 3, 1) := dk_29 (dk_at dksJ11_mismatch_3 12 rfl rfl)
theorem dJ11_mismatch_85 : decode cJ11_mismatch 85 = .ok (.iload 5, 2) := dk_21 5 (dk_at dksJ11_mismatch_3 13 rfl rfl)
theorem dJ11_mismatch_87 : decode cJ11_mismatch 87 = .ok (.iadd, 1) := dk_96 (dk_at dksJ11_mismatch_3 15 rfl rfl)
theorem dJ11_mismatch_88 : decode cJ11_mismatch 88 = .ok (.baload, 1) := dk_51 (dk_at dksJ11_mismatch_3 16 rfl rfl)
theorem dJ11_mismatch_89 : decode cJ11_mismatch 89 = .ok (.if_icmp .eq 6, 3) := dk_159 0 6 (dk_at dksJ11_mismatch_3 17 rfl rfl)
theorem dJ11_mismatch_92 : decode cJ11_mismatch 92 = .ok (.iload 5, 2) := dk_21 5 (dk_at dksJ11_mismatch_3 20 rfl rfl)
theorem dJ11_mismatch_94 : decode cJ11_mismatch 94 = .ok (.ireturn, 1) := dk_172 (dk_at dksJ11_mismatch_3 22 rfl rfl)
theorem dJ11_mismatch_95 : decode cJ11_mismatch 95 = .ok (.iinc 5 1, 3) := dk_132 5 1 (dk_at dksJ11_mismatch_4 0 rfl rfl)
theorem dJ11_mismatch_98 : decode cJ11_mismatch 98 = .ok (.goto (-28), 3) := dk_167 255 228 (dk_at dksJ11_mismatch_4 3 rfl rfl)
theorem dJ11_mismatch_101 : decode cJ11_mismatch 101 = .ok (.iconst (-1), 1) := dk_2 (dk_at dksJ11_mismatch_4 6 rfl rfl)
theorem dJ11_mismatch_102 : decode cJ11_mismatch 102 = .ok (.ireturn, 1) := dk_172 (dk_at dksJ11_mismatch_4 7 rfl rfl)
def dkwJ5_startsWith_2_5 : List UInt8 := [159, 255, 229, 3, 172, 4, 172]
abbrev dktJ5_startsWith_2_5 : List UInt8 := dkwJ5_startsWith_2_5 ++ []
def dkwJ5_startsWith_2_4 : List UInt8 := [162, 0, 28, 45, 28, 132, 2, 1, 184, 1, 104, 25, 4, 21, 5, 132, 5, 1, 51, 17, 0, 255, 126]
abbrev dktJ5_startsWith_2_4 : List UInt8 := dkwJ5_startsWith_2_4 ++ dktJ5_startsWith_2_5
def dkwJ5_startsWith_2_3 : List UInt8 := [184, 2, 95, 156, 0, 7, 4, 167, 0, 4, 3, 172, 21, 7, 154, 0, 5, 3, 172, 21, 5, 21, 6]
abbrev dktJ5_startsWith_2_3 : List UInt8 := dkwJ5_startsWith_2_3 ++ dktJ5_startsWith_2_4
def dkwJ5_startsWith_2_2 : List UInt8 := [182, 1, 79, 160, 0, 32, 21, 7, 4, 160, 0, 7, 28, 4, 120, 61, 45, 28, 25, 4, 3, 21, 6]
abbrev dktJ5_startsWith_2_2 : List UInt8 := dkwJ5_startsWith_2_2 ++ dktJ5_startsWith_2_3
def dkwJ5_startsWith_2_1 : List UInt8 := [43, 180, 0, 9, 58, 4, 3, 54, 5, 25, 4, 190, 54, 6, 42, 182, 1, 79, 54, 7, 21, 7, 43]
abbrev dktJ5_startsWith_2_1 : List UInt8 := dkwJ5_startsWith_2_1 ++ dktJ5_startsWith_2_2
def dkwJ5_startsWith_2_0 : List UInt8 := [28, 155, 0, 16, 28, 42, 182, 1, 249, 43, 182, 1, 249, 100, 164, 0, 5, 3, 172, 42, 180, 0, 9, 78]
abbrev dktJ5_startsWith_2_0 : List UInt8 := dkwJ5_startsWith_2_0 ++ dktJ5_startsWith_2_1
theorem dksJ5_startsWith_2_0 : cJ5_startsWith_2.data.toList.drop 0 = dktJ5_startsWith_2_0 := by decide +kernel
theorem dksJ5_startsWith_2_1 : cJ5_startsWith_2.data.toList.drop 24 = dktJ5_startsWith_2_1 := dk_seg dksJ5_startsWith_2_0 24 rfl rfl
theorem dksJ5_startsWith_2_2 : cJ5_startsWith_2.data.toList.drop 47 = dktJ5_startsWith_2_2 := dk_seg dksJ5_startsWith_2_1 23 rfl rfl
theorem dksJ5_startsWith_2_3 : cJ5_startsWith_2.data.toList.drop 70 = dktJ5_startsWith_2_3 := dk_seg dksJ5_startsWith_2_2 23 rfl rfl
theorem dksJ5_startsWith_2_4 : cJ5_startsWith_2.data.toList.drop 93 = dktJ5_startsWith_2_4 := dk_seg dksJ5_startsWith_2_3 23 rfl rfl
theorem dksJ5_startsWith_2_5 : cJ5_startsWith_2.data.toList.drop 116 = dktJ5_startsWith_2_5 := dk_seg dksJ5_startsWith_2_4 23 rfl rfl
theorem dJ5_startsWith_2_0 : decode cJ5_startsWith_2 0 = .ok (.iload_n 2, 1) := dk_28 (dk_at dksJ5_startsWith_2_0 0 rfl rfl)
theorem dJ5_startsWith_2_1 : decode cJ5_startsWith_2 1 = .ok (.ifCond .lt 16, 3) := dk_155 0 16 (dk_at dksJ5_startsWith_2_0 1 rfl rfl)
theorem dJ5_startsWith_2_4 : decode cJ5_startsWith_2 4 = .ok (.iload_n 2, 1) := dk_28 (dk_at dksJ5_startsWith_2_0 4 rfl rfl)
theorem dJ5_startsWith_2_5 : decode cJ5_startsWith_2 5 = .ok (.aload_n 0, 1) := dk_42 (dk_at dksJ5_startsWith_2_0 5 rfl rfl)
theorem dJ5_startsWith_2_6 : decode cJ5_startsWith_2 6 = .ok (.invokevirtual 505, 3) := dk_182 1 249 (dk_at dksJ5_startsWith_2_0 6 rfl rfl)
theorem dJ5_startsWith_2_9 : decode cJ5_startsWith_2 9 = .ok (.aload_n 1, 1) := dk_43 (dk_at dksJ5_startsWith_2_0 9 rfl rfl)
theorem dJ5_startsWith_2_10 : decode cJ5_startsWith_2 10 = .ok (.invokevirtual 505, 3) := dk_182 1 249 (dk_at dksJ5_startsWith_2_0 10 rfl rfl)
theorem dJ5_startsWith_2_13 : decode cJ5_startsWith_2 13 = .ok (.isub, 1) := dk_100 (dk_at dksJ5_startsWith_2_0 13 rfl rfl)
theorem dJ5_startsWith_2_14 : decode cJ5_startsWith_2 14 = .ok (.if_icmp .le 5, 3) := dk_164 0 5 (dk_at dksJ5_startsWith_2_0 14 rfl rfl)
theorem dJ5_startsWith_2_17 : decode cJ5_startsWith_2 17 = .ok (.iconst 0, 1) := dk_3 (dk_at dksJ5_startsWith_2_0 17 rfl rfl)
theorem dJ5_startsWith_2_18 : decode cJ5_startsWith_2 18 = .ok (.ireturn, 1) := dk_172 (dk_at dksJ5_startsWith_2_0 18 rfl rfl)
theorem dJ5_startsWith_2_19 : decode cJ5_startsWith_2 19 = .ok (.aload_n 0, 1) := dk_42 (dk_at dksJ5_startsWith_2_0 19 rfl rfl)
theorem dJ5_startsWith_2_20 : decode cJ5_startsWith_2 20 = .ok (.getfield 9, 3) := dk_180 0 9 (dk_at dksJ5_startsWith_2_0 20 rfl rfl)
theorem dJ5_startsWith_2_23 : decode cJ5_startsWith_2 23 = .ok (.astore_n 3, 1) := dk_78 (dk_at dksJ5_startsWith_2_0 23 rfl rfl)
theorem dJ5_startsWith_2_24 : decode cJ5_startsWith_2 24 = .ok (.aload_n 1, 1) := dk_43 (dk_at dksJ5_startsWith_2_1 0 rfl rfl)
theorem dJ5_startsWith_2_25 : decode cJ5_startsWith_2 25 = .ok (.getfield 9, 3) := dk_180 0 9 (dk_at dksJ5_startsWith_2_1 1 rfl rfl)
theorem dJ5_startsWith_2_28 : decode cJ5_startsWith_2 28 = .ok (.astore 4, 2) := dk_58 4 (dk_at dksJ5_startsWith_2_1 4 rfl rfl)
theorem dJ5_startsWith_2_30 : decode cJ5_startsWith_2 30 = .ok (.iconst 0, 1) := dk_3 (dk_at dksJ5_startsWith_2_1 6 rfl rfl)
theorem dJ5_startsWith_2_31 : decode cJ5_startsWith_2 31 = .ok (.istore 5, 2) := dk_54 5 (dk_at dksJ5_startsWith_2_1 7 rfl rfl)
theorem dJ5_startsWith_2_33 : decode cJ5_startsWith_2 33 = .ok (.aload 4, 2) := dk_25 4 (dk_at dksJ5_startsWith_2_1 9 rfl rfl)
theorem dJ5_startsWith_2_35 : decode cJ5_startsWith_2 35 = .ok (.arraylength, 1) := dk_190 (dk_at dksJ5_startsWith_2_1 11 rfl rfl)
theorem dJ5_startsWith_2_36 : decode cJ5_startsWith_2 36 = .ok (.istore 6, 2) := dk_54 6 (dk_at dksJ5_startsWith_2_1 12 rfl rfl)
theorem dJ5_startsWith_2_38 : decode cJ5_startsWith_2 38 = .ok (.aload_n 0, 1) := dk_42 (dk_at dksJ5_startsWith_2_1 14 rfl rfl)
theorem dJ5_startsWith_2_39 : decode cJ5_startsWith_2 39 = .ok (.invokevirtual 335, 3) := dk_182 1 79 (dk_at dksJ5_startsWith_2_1 15 rfl rfl)
theorem dJ5_startsWith_2_42 : decode cJ5_startsWith_2 42 = .ok (.istore 7, 2) := dk_54 7 (dk_at dksJ5_startsWith_2_1 18 rfl rfl)
theorem dJ5_startsWith_2_44 : decode cJ5_startsWith_2 44 = .ok (.iload 7, 2) := dk_21 7 (dk_at dksJ5_startsWith_2_1 20 rfl rfl)
theorem dJ5_startsWith_2_46 : decode cJ5_startsWith_2 46 = .ok (.aload_n 1, 1) := dk_43 (dk_at dksJ5_startsWith_2_1 22 rfl rfl)
theorem dJ5_startsWith_2_47 : decode cJ5_startsWith_2 47 = .ok (.invokevirtual 335, 3) := dk_182 1 79 (dk_at dksJ5_startsWith_2_2 0 rfl rfl)
theorem dJ5_startsWith_2_50 : decode cJ5_startsWith_2 50 = .ok (.if_icmp .ne 32, 3) := dk_160 0 32 (dk_at dksJ5_startsWith_2_2 3 rfl rfl)
theorem dJ5_startsWith_2_53 : decode cJ5_startsWith_2 53 = .ok (.iload 7, 2) := dk_21 7 (dk_at dksJ5_startsWith_2_2 6 rfl rfl)
theorem dJ5_startsWith_2_55 : decode cJ5_startsWith_2 55 = .ok (.iconst 1, 1) := dk_4 (dk_at dksJ5_startsWith_2_2 8 rfl rfl)
theorem dJ5_startsWith_2_56 : decode cJ5_startsWith_2 56 = .ok (.if_icmp .ne 7, 3) := dk_160 0 7 (dk_at dksJ5_startsWith_2_2 9 rfl rfl)
theorem dJ5_startsWith_2_59 : decode cJ5_startsWith_2 59 = .ok (.iload_n 2, 1) := dk_28 (dk_at dksJ5_startsWith_2_2 12 rfl rfl)
theorem dJ5_startsWith_2_60 : decode cJ5_startsWith_2 60 = .ok (.iconst 1, 1) := dk_4 (dk_at dksJ5_startsWith_2_2 13 rfl rfl)
theorem dJ5_startsWith_2_61 : decode cJ5_startsWith_2 61 = .ok (.ishl, 1) := dk_120 (dk_at dksJ5_startsWith_2_2 14 rfl rfl)
theorem dJ5_startsWith_2_62 : decode cJ5_startsWith_2 62 = .ok (.istore_n 2, 1) := dk_61 (dk_at dksJ5_startsWith_2_2 15 rfl rfl)
theorem dJ5_startsWith_2_63 : decode cJ5_startsWith_2 63 = .ok (.aload_n 3, 1) := dk_45 (dk_at dksJ5_startsWith_2_2 16 rfl rfl)
theorem dJ5_startsWith_2_64 : decode cJ5_startsWith_2 64 = .ok (.iload_n 2, 1) := dk_28 (dk_at dksJ5_startsWith_2_2 17 rfl rfl)
theorem dJ5_startsWith_2_65 : decode cJ5_startsWith_2 65 = .ok (.aload 4, 2) := dk_25 4 (dk_at dksJ5_startsWith_2_2 18 rfl rfl)
theorem dJ5_startsWith_2_67 : decode cJ5_startsWith_2 67 = .ok (.iconst 0, 1) := dk_3 (dk_at dksJ5_startsWith_2_2 20 rfl rfl)
theorem dJ5_startsWith_2_68 : decode cJ5_startsWith_2 68 = .ok (.iload 6, 2) := dk_21 6 (dk_at dksJ5_startsWith_2_2 21 rfl rfl)
theorem dJ5_startsWith_2_70 : decode cJ5_startsWith_2 70 = .ok (.invokestatic 607, 3) := dk_184 2 95 (dk_at dksJ5_startsWith_2_3 0 rfl rfl)
theorem dJ5_startsWith_2_73 : decode cJ5_startsWith_2 73 = .ok (.ifCond .ge 7, 3) := dk_156 0 7 (dk_at dksJ5_startsWith_2_3 3 rfl rfl)
theorem dJ5_startsWith_2_76 : decode cJ5_startsWith_2 76 = .ok (.iconst 1, 1) := dk_4 (dk_at dksJ5_startsWith_2_3 6 rfl rfl)
theorem dJ5_startsWith_2_77 : decode cJ5_startsWith_2 77 = .ok (.goto 4, 3) := dk_167 0 4 (dk_at dksJ5_startsWith_2_3 7 rfl rfl)
theorem dJ5_startsWith_2_80 : decode cJ5_startsWith_2 80 = .ok (.iconst 0, 1) := dk_3 (dk_at dksJ5_startsWith_2_3 10 rfl rfl)
theorem dJ5_startsWith_2_81 : decode cJ5_startsWith_2 81 = .ok (.ireturn, 1) := dk_172 (dk_at dksJ5_startsWith_2_3 11 rfl rfl)
theorem dJ5_startsWith_2_82 : decode cJ5_startsWith_2 82 = .ok (.iload 7, 2) := dk_21 7 (dk_at dksJ5_startsWith_2_3 12 rfl rfl)
theorem dJ5_startsWith_2_84 : decode cJ5_startsWith_2 84 = .ok (.ifCond .ne 5, 3) := dk_154 0 5 (dk_at dksJ5_startsWith_2_3 14 rfl rfl)
theorem dJ5_startsWith_2_87 : decode cJ5_startsWith_2 87 = .ok (.iconst 0, 1) := dk_3 (dk_at dksJ5_startsWith_2_3 17 rfl rfl)
theorem dJ5_startsWith_2_88 : decode cJ5_startsWith_2 88 = .ok (.ireturn, 1) := dk_172 (dk_at dksJ5_startsWith_2_3 18 rfl rfl)
theorem dJ5_startsWith_2_89 : decode cJ5_startsWith_2 89 = .ok (.iload 5, 2) := dk_21 5 (dk_at dksJ5_startsWith_2_3 19 rfl rfl)
theorem dJ5_startsWith_2_91 : decode cJ5_startsWith_2 91 = .ok (.iload 6, 2) := dk_21 6 (dk_at dksJ5_startsWith_2_3 21 rfl rfl)
theorem dJ5_startsWith_2_93 : decode cJ5_startsWith_2 93 = .ok (.if_icmp .ge 28, 3) := dk_162 0 28 (dk_at dksJ5_startsWith_2_4 0 rfl rfl)
theorem dJ5_startsWith_2_96 : decode cJ5_startsWith_2 96 = .ok (.aload_n 3, 1) := dk_45 (dk_at dksJ5_startsWith_2_4 3 rfl rfl)
theorem dJ5_startsWith_2_97 : decode cJ5_startsWith_2 97 = .ok (.iload_n 2, 1) := dk_28 (dk_at dksJ5_startsWith_2_4 4 rfl rfl)
theorem dJ5_startsWith_2_98 : decode cJ5_startsWith_2 98 = .ok (.iinc 2 1, 3) := dk_132 2 1 (dk_at dksJ5_startsWith_2_4 5 rfl rfl)
theorem dJ5_startsWith_2_101 : decode cJ5_startsWith_2 101 = .ok (.invokestatic 360, 3) := dk_184 1 104 (dk_at dksJ5_startsWith_2_4 8 rfl rfl)
theorem dJ5_startsWith_2_104 : decode cJ5_startsWith_2 104 = .ok (.aload 4, 2) := dk_25 4 (dk_at dksJ5_startsWith_2_4 11 rfl rfl)
theorem dJ5_startsWith_2_106 : decode cJ5_startsWith_2 106 = .ok (.iload 5, 2) := dk_21 5 (dk_at dksJ5_startsWith_2_4 13 rfl rfl)
theorem dJ5_startsWith_2_108 : decode cJ5_startsWith_2 108 = .ok (.iinc 5 1, 3) := dk_132 5 1 (dk_at dksJ5_startsWith_2_4 15 rfl rfl)
theorem dJ5_startsWith_2_111 : decode cJ5_startsWith_2 111 = .ok (.baload, 1) := dk_51 (dk_at dksJ5_startsWith_2_4 18 rfl rfl)
theorem dJ5_startsWith_2_112 : decode cJ5_startsWith_2 112 = .ok (.sipush 255, 3) := dk_17 0 255 (dk_at dksJ5_startsWith_2_4 19 rfl rfl)
theorem dJ5_startsWith_2_115 : decode cJ5_startsWith_2 115 = .ok (.iand, 1) := dk_126 (dk_at dksJ5_startsWith_2_4 22 rfl rfl)
theorem dJ5_startsWith_2_116 : decode cJ5_startsWith_2 116 = .ok (.if_icmp .eq (-27), 3) := dk_159 255 229 (dk_at dksJ5_startsWith_2_5 0 rfl rfl)
theorem dJ5_startsWith_2_119 : decode cJ5_startsWith_2 119 = .ok (.iconst 0, 1) := dk_3 (dk_at dksJ5_startsWith_2_5 3 rfl rfl)
theorem dJ5_startsWith_2_120 : decode cJ5_startsWith_2 120 = .ok (.ireturn, 1) := dk_172 (dk_at dksJ5_startsWith_2_5 4 rfl rfl)
theorem dJ5_startsWith_2_121 : decode cJ5_startsWith_2 121 = .ok (.iconst 1, 1) := dk_4 (dk_at dksJ5_startsWith_2_5 5 rfl rfl)
theorem dJ5_startsWith_2_122 : decode cJ5_startsWith_2 122 = .ok (.ireturn, 1) := dk_172 (dk_at dksJ5_startsWith_2_5 6 rfl rfl)
def dkwJ5_startsWith_0 : List UInt8 := [42, 43, 3, 182, 2, 112, 172]
abbrev dktJ5_startsWith_0 : List UInt8 := dkwJ5_startsWith_0 ++ []
theorem dksJ5_startsWith_0 : cJ5_startsWith.data.toList.drop 0 = dktJ5_startsWith_0 := by decide +kernel
theorem dJ5_startsWith_0 : decode cJ5_startsWith 0 = .ok (.aload_n 0, 1) := dk_42 (dk_at dksJ5_startsWith_0 0 rfl rfl)
theorem dJ5_startsWith_1 : decode cJ5_startsWith 1 = .ok (.aload_n 1, 1) := dk_43 (dk_at dksJ5_startsWith_0 1 rfl rfl)
theorem dJ5_startsWith_2 : decode cJ5_startsWith 2 = .ok (.iconst 0, 1) := dk_3 (dk_at dksJ5_startsWith_0 2 rfl rfl)
theorem dJ5_startsWith_3 : decode cJ5_startsWith 3 = .ok (.invokevirtual 624, 3) := dk_182 2 112 (dk_at dksJ5_startsWith_0 3 rfl rfl)
theorem dJ5_startsWith_6 : decode cJ5_startsWith 6 = .ok (.ireturn, 1) := dk_172 (dk_at dksJ5_startsWith_0 6 rfl rfl)
def dkwJ5_endsWith_0 : List UInt8 := [42, 43, 42, 182, 1, 249, 43, 182, 1, 249, 100, 182, 2, 112, 172]
abbrev dktJ5_endsWith_0 : List UInt8 := dkwJ5_endsWith_0 ++ []
theorem dksJ5_endsWith_0 : cJ5_endsWith.data.toList.drop 0 = dktJ5_endsWith_0 := by decide +kernel
theorem dJ5_endsWith_0 : decode cJ5_endsWith 0 = .ok (.aload_n 0, 1) := dk_42 (dk_at dksJ5_endsWith_0 0 rfl rfl)
theorem dJ5_endsWith_1 : decode cJ5_endsWith 1 = .ok (.aload_n 1, 1) := dk_43 (dk_at dksJ5_endsWith_0 1 rfl rfl)
theorem dJ5_endsWith_2 : decode cJ5_endsWith 2 = .ok (.aload_n 0, 1) := dk_42 (dk_at dksJ5_endsWith_0 2 rfl rfl)
theorem dJ5_endsWith_3 : decode cJ5_endsWith 3 = .ok (.invokevirtual 505, 3) := dk_182 1 249 (dk_at dksJ5_endsWith_0 3 rfl rfl)
theorem dJ5_endsWith_6 : decode cJ5_endsWith 6 = .ok (.aload_n 1, 1) := dk_43 (dk_at dksJ5_endsWith_0 6 rfl rfl)
theorem dJ5_endsWith_7 : decode cJ5_endsWith 7 = .ok (.invokevirtual 505, 3) := dk_182 1 249 (dk_at dksJ5_endsWith_0 7 rfl rfl)
theorem dJ5_endsWith_10 : decode cJ5_endsWith 10 = .ok (.isub, 1) := dk_100 (dk_at dksJ5_endsWith_0 10 rfl rfl)
theorem dJ5_endsWith_11 : decode cJ5_endsWith 11 = .ok (.invokevirtual 624, 3) := dk_182 2 112 (dk_at dksJ5_endsWith_0 11 rfl rfl)
theorem dJ5_endsWith_14 : decode cJ5_endsWith 14 = .ok (.ireturn, 1) := dk_172 (dk_at dksJ5_endsWith_0 14 rfl rfl)
theorem yd_J11_mismatch : yJ11_mismatch.cls ≠ "java/lang/invoke/MethodHandle" ∧ yJ11_mismatch.cls ≠ "java/lang/invoke/VarHandle" ∧ (parseMethodDescriptor yJ11_mismatch.desc).map (fun d => d.parameters.length) = some 5 := by decide +kernel
theorem yd_J13_copyOfRange : yJ13_copyOfRange.cls ≠ "java/lang/invoke/MethodHandle" ∧ yJ13_copyOfRange.cls ≠ "java/lang/invoke/VarHandle" ∧ (parseMethodDescriptor yJ13_copyOfRange.desc).map (fun d => d.parameters.length) = some 3 := by decide +kernel
theorem yd_J13_copyOfRangeByte : yJ13_copyOfRangeByte.cls ≠ "java/lang/invoke/MethodHandle" ∧ yJ13_copyOfRangeByte.cls ≠ "java/lang/invoke/VarHandle" ∧ (parseMethodDescriptor yJ13_copyOfRangeByte.desc).map (fun d => d.parameters.length) = some 3 := by decide +kernel
theorem yd_J14_checkFromToIndex : yJ14_checkFromToIndex.cls ≠ "java/lang/invoke/MethodHandle" ∧ yJ14_checkFromToIndex.cls ≠ "java/lang/invoke/VarHandle" ∧ (parseMethodDescriptor yJ14_checkFromToIndex.desc).map (fun d => d.parameters.length) = some 4 := by decide +kernel
theorem yd_J15_canEncode : yJ15_canEncode.cls ≠ "java/lang/invoke/MethodHandle" ∧ yJ15_canEncode.cls ≠ "java/lang/invoke/VarHandle" ∧ (parseMethodDescriptor yJ15_canEncode.desc).map (fun d => d.parameters.length) = some 1 := by decide +kernel
theorem yd_J15_equals : yJ15_equals.cls ≠ "java/lang/invoke/MethodHandle" ∧ yJ15_equals.cls ≠ "java/lang/invoke/VarHandle" ∧ (parseMethodDescriptor yJ15_equals.desc).map (fun d => d.parameters.length) = some 2 := by decide +kernel
theorem yd_J15_indexOf : yJ15_indexOf.cls ≠ "java/lang/invoke/MethodHandle" ∧ yJ15_indexOf.cls ≠ "java/lang/invoke/VarHandle" ∧ (parseMethodDescriptor yJ15_indexOf.desc).map (fun d => d.parameters.length) = some 4 := by decide +kernel
theorem yd_J15_indexOfChar : yJ15_indexOfChar.cls ≠ "java/lang/invoke/MethodHandle" ∧ yJ15_indexOfChar.cls ≠ "java/lang/invoke/VarHandle" ∧ (parseMethodDescriptor yJ15_indexOfChar.desc).map (fun d => d.parameters.length) = some 4 := by decide +kernel
theorem yd_J15_newString : yJ15_newString.cls ≠ "java/lang/invoke/MethodHandle" ∧ yJ15_newString.cls ≠ "java/lang/invoke/VarHandle" ∧ (parseMethodDescriptor yJ15_newString.desc).map (fun d => d.parameters.length) = some 3 := by decide +kernel
theorem yd_J5_checkBoundsBeginEnd : yJ5_checkBoundsBeginEnd.cls ≠ "java/lang/invoke/MethodHandle" ∧ yJ5_checkBoundsBeginEnd.cls ≠ "java/lang/invoke/VarHandle" ∧ (parseMethodDescriptor yJ5_checkBoundsBeginEnd.desc).map (fun d => d.parameters.length) = some 3 := by decide +kernel
theorem ydv_J5_indexOf_2 : yJ5_indexOf_2.cls = "java/lang/String" ∧ yJ5_indexOf_2.cls ≠ "java/lang/invoke/MethodHandle" ∧ yJ5_indexOf_2.cls ≠ "java/lang/invoke/VarHandle" ∧ (parseMethodDescriptor yJ5_indexOf_2.desc).map (fun d => d.parameters.length) = some 2 := by decide +kernel
theorem yd_J5_init_3 : yJ5_init_3.cls ≠ "java/lang/invoke/MethodHandle" ∧ yJ5_init_3.cls ≠ "java/lang/invoke/VarHandle" ∧ (parseMethodDescriptor yJ5_init_3.desc).map (fun d => d.parameters.length) = some 2 := by decide +kernel
theorem ydv_J5_length : yJ5_length.cls = "java/lang/String" ∧ yJ5_length.cls ≠ "java/lang/invoke/MethodHandle" ∧ yJ5_length.cls ≠ "java/lang/invoke/VarHandle" ∧ (parseMethodDescriptor yJ5_length.desc).map (fun d => d.parameters.length) = some 0 := by decide +kernel
theorem ydv_J5_startsWith_2 : yJ5_startsWith_2.cls = "java/lang/String" ∧ yJ5_startsWith_2.cls ≠ "java/lang/invoke/MethodHandle" ∧ yJ5_startsWith_2.cls ≠ "java/lang/invoke/VarHandle" ∧ (parseMethodDescriptor yJ5_startsWith_2.desc).map (fun d => d.parameters.length) = some 2 := by decide +kernel
theorem ydv_J5_substring : yJ5_substring.cls = "java/lang/String" ∧ yJ5_substring.cls ≠ "java/lang/invoke/MethodHandle" ∧ yJ5_substring.cls ≠ "java/lang/invoke/VarHandle" ∧ (parseMethodDescriptor yJ5_substring.desc).map (fun d => d.parameters.length) = some 2 := by decide +kernel
/-! ### Strings made -/
/-- words that don't ride in the lists -/
def zW (z : State) : Prop := va_Nw (.castable "[B" "java/lang/Cloneable") z ∧ va_Nw (.castable "[I" "java/lang/Cloneable") z ∧ va_Fw "java/lang/String" ⟨"java/lang/CharSequence", "length", "()I"⟩ ⟨"java/lang/String", "length", "()I"⟩ z ∧ va_Fw "java/lang/String" ⟨"java/lang/CharSequence", "charAt", "(I)C"⟩ ⟨"java/lang/String", "charAt", "(I)C"⟩ z ∧ va_Nw (.declares ⟨"java/lang/CharacterData", "digit", "(II)I"⟩) z ∧ va_Nw (.declares ⟨"java/lang/Object", "toString", "()Ljava/lang/String;"⟩) z
/-- a part of a text -/
def sub (T : List Nat) (u j : Nat) : List Nat := (T.drop u).take j
theorem sub_len {T : List Nat} {u j : Nat} (h : u + j ≤ T.length) : (sub T u j).length = j := by unfold sub; simp; omega
theorem sub_at {T : List Nat} {u j i : Nat} (h : i < j) : (sub T u j).getD i 0 = T.getD (u + i) 0 := by
  unfold sub
  rw [List.getD_eq_getElem?_getD, List.getElem?_take_of_lt h, List.getElem?_drop, ← List.getD_eq_getElem?_getD]
theorem sub_tx {T : List Nat} (h : tx T) (u j : Nat) : tx (sub T u j) := by
  refine ⟨?_, fun c hc => h.2 c (List.mem_of_mem_drop (List.mem_of_mem_take hc))⟩
  have := h.1
  unfold sub
  simp
  omega
theorem fit_c {c : Nat} (h : c < 128) : fits .byte (.int (nI c)) = true := by
  have : ∀ c, c < 128 → fits .byte (.int (nI c)) = true := by decide +kernel
  exact this c h
theorem fit_bof {T : List Nat} (h : tx T) (i : Nat) : fits .byte (.int (bof T i)) = true := fit_c (tx_at h i)
theorem bof_sub {T : List Nat} {u j i : Nat} (h : i < j) : bof (sub T u j) i = bof T (u + i) := by unfold bof; rw [sub_at h]
theorem getD_ext {S T : List Nat} (h : S.length = T.length) (h2 : ∀ i, i < S.length → S.getD i 0 = T.getD i 0) : S = T := by
  refine List.ext_getElem h fun i h3 h4 => ?_
  have := h2 i h3
  rw [List.getD_eq_getElem?_getD, List.getD_eq_getElem?_getD, List.getElem?_eq_getElem h3, List.getElem?_eq_getElem h4] at this
  exact this
/-- where a letter stands from a place on -/
def ixo (T : List Nat) (c : Nat) (p : Nat) : Nat → Option Nat
  | 0 => none
  | f + 1 => if T.length ≤ p then none else if T.getD p 0 = c then some p else ixo T c (p + 1) f

set_option maxHeartbeats 1000000 in
theorem m_copyOfB (l : Launch) (z : State) (H0 : Heap) (b : Nat) (m0 n : Nat) (w : Bool) (f : Nat → Int32) (hm : m0 < n) (hn : n < 268435456) (hb0 : gI z w .byte H0 b m0 f) (hf : fitB m0 f) : Met l yJ13_copyOf (ws_ yJ13_copyOf cJ13_copyOf 3 (some (.array .byte))) { frames := 1, cells := 1, slots := n, locals := 40 } (gPc z H0 [.ref b, .int (nI n)]) (gRr (gfr H0) H0 (fun r H1 => H0.size ≤ r ∧ gI z true .byte H1 r n (fun i => if i < m0 then f i else 0))) 1 n (gfr H0) := by
  refine g_start (by decide +kernel) (Nat.le_of_ble_eq_true rfl) ?_
  intro p e s m below meth c ls hx hb hr hlocks hml hown hname hts hwm hl
  have hown : s.vm.findClass "java/util/Arrays" = some m.cls := hown
  have hal : z.vm.Alike s.vm := hwm.alike
  have hCF : CallFix p m c cJ13_copyOf 3 s [.ref b, .int (nI n)].toArray lw_all "java/util/Arrays" := ⟨hx, hb, hml, hown, hts⟩
  have hl : lv_has ls 3 [(0, .ref b), (1, .int (nI n))] := hl
  have hS : va_S (gfr H0) H0 H0 [] := va_S.rf
  have lt_b := hb0.lt
  refine lv_iload_n hx hb dJ13_copyOf_0 rfl (lv_at hl 1 rfl) ?_
  refine lv_aload_n hx hb dJ13_copyOf_1 rfl (lv_at hl 0 rfl) ?_
  refine gw_len hx hb hal hb0 dJ13_copyOf_2 ?_
  refine lv_icmp_ne (tgt := 14) hx hb dJ13_copyOf_3 (by decide) (fun c_3 => ?_) (fun c_3 => False.elim (by
    have c_3 := (ai_eq (a := n) (b := m0) (rfl) (rfl) (by omega) (by omega)).mp c_3
    omega))
  have c_3 := mt (ai_eq (a := n) (b := m0) (rfl) (rfl) (by omega) (by omega)).mpr c_3
  refine lv_iload_n hx hb dJ13_copyOf_14 rfl (lv_at hl 1 rfl) ?_
  refine gw_newa (atype := .byte) (ty := .byte) (N' := n) hx hb (hts _ q167) rfl hal hS (rfl) (by omega) (by simp [componentBytes]; omega) (by first | omega | (dsimp only; omega)) (by first | omega | (dsimp only; omega)) dJ13_copyOf_15 (fun q_1 H_2 eq_1 zq_1 hgx h_q_1 hS => ?_)
  have hb0 := hb0.x hgx
  have h_q_1 : gI z true .byte H_2 q_1 n (fun _ => 0) := h_q_1
  refine lv_astore_n hx hb dJ13_copyOf_17 rfl hl (by decide) rfl (fun ls hl => ?_)
  have hl : lv_has ls 3 [(2, .ref q_1), (0, .ref b), (1, .int (nI n))] := hl
  refine lv_aload_n hx hb dJ13_copyOf_18 rfl (lv_at hl 1 rfl) ?_
  refine lv_iconst (v := 0) hx hb dJ13_copyOf_19 (by decide) ?_
  refine lv_aload_n hx hb dJ13_copyOf_20 rfl (lv_at hl 0 rfl) ?_
  refine lv_iconst (v := 0) hx hb dJ13_copyOf_21 (by decide) ?_
  refine lv_aload_n hx hb dJ13_copyOf_22 rfl (lv_at hl 1 rfl) ?_
  refine gw_len hx hb hal hb0 dJ13_copyOf_23 ?_
  refine lv_iload_n hx hb dJ13_copyOf_24 rfl (lv_at hl 2 rfl) ?_
  refine gcS2_iP hCF hwm hl.1 (m_minI l z H_2 (nI m0) (nI n)  ) (lw_S q283 q284 q72 q285) yd_J12_min ⟨Nat.le_of_ble_eq_true rfl, Nat.le_of_ble_eq_true rfl⟩ ⟨by first | omega | (dsimp only; omega), by first | omega | (dsimp only; omega)⟩ (Nat.le_of_ble_eq_true rfl) dJ13_copyOf_25 (fun r_3 hp => ?_)
  subst hp
  refine g_topi (v := nI (min m0 n)) (ai_min (a := m0) (b := n) (rfl) (rfl) (by omega) (by omega)) ?_
  refine gw_copy hx hb (hml.trans hl.1.symm) hal hown (hts _ q286) (hts _ q288) (hts _ q287) (hts _ q74) rfl hb0 h_q_1 hS (by have hsz := hS.1; (try dsimp only [gfr]) <;> omega) 0 0 m0 (rfl) (rfl) ((show nI (min m0 n) = nI m0 by rw [Nat.min_eq_left (by omega)])) (by omega) (by omega) (by omega) (by omega) (fun i hi => hf _ (by omega)) (Nat.le_of_ble_eq_true rfl) (Nat.le_of_ble_eq_true rfl) dJ13_copyOf_28 (fun H_4 locs h_new hch hS => ?_)
  have hb0 := hb0.ch hch (by omega)
  have sz_H_4 := hch.1
  clear hch
  have h_q_1 : gI z true .byte H_4 q_1 n (va_cpy f (fun _ => 0) 0 0 m0) := h_new
  refine lv_aload_n hx hb dJ13_copyOf_31 rfl (lv_at hl 0 rfl) ?_
  refine g_aret hx hb hr hlocks (Or.inr ⟨_, rfl⟩) hS (by first | omega | (dsimp only; omega)) (by first | omega | (dsimp only; omega)) ?_ dJ13_copyOf_32
  refine ⟨by omega, ?_⟩
  refine gA.cg h_q_1 ?_
  intro j hj
  show Value.int (va_cpy f (fun _ => 0) 0 0 m0 j) = _
  unfold va_cpy
  by_cases hj2 : j < m0
  · rw [if_pos (by omega)]; show _ = Value.int (if j < m0 then f j else 0); rw [if_pos hj2]; simp
  · rw [if_neg (by omega)]; show _ = Value.int (if j < m0 then f j else 0); rw [if_neg hj2]
set_option maxHeartbeats 1000000 in
theorem m_copyRange (l : Launch) (z : State) (H0 : Heap) (b : Nat) (u v n : Nat) (f : Nat → Int32) (hu : u ≤ v) (hv : v ≤ n) (hn : n < 268435456) (hb0 : gI z true .byte H0 b n f) (hf : ∀ i, u ≤ i → i < v → fits .byte (.int (f i)) = true) (hz : zW z) : Met l yJ13_copyOfRange (ws_ yJ13_copyOfRange cJ13_copyOfRange 3 (some (.array .byte))) { frames := 2, cells := 1, slots := (v - u), locals := 64 } (gPc z H0 [.ref b, .int (nI u), .int (nI v)]) (gRr (gfr H0) H0 (fun r H1 => H0.size ≤ r ∧ gI z true .byte H1 r (v - u) (fun i => f (u + i)))) 1 (v - u) (gfr H0) := by
  refine g_start (by decide +kernel) (Nat.le_of_ble_eq_true rfl) ?_
  intro p e s m below meth c ls hx hb hr hlocks hml hown hname hts hwm hl
  have hown : s.vm.findClass "java/util/Arrays" = some m.cls := hown
  have hal : z.vm.Alike s.vm := hwm.alike
  have hCF : CallFix p m c cJ13_copyOfRange 3 s [.ref b, .int (nI u), .int (nI v)].toArray lw_all "java/util/Arrays" := ⟨hx, hb, hml, hown, hts⟩
  have hl : lv_has ls 3 [(0, .ref b), (1, .int (nI u)), (2, .int (nI v))] := hl
  have hS : va_S (gfr H0) H0 H0 [] := va_S.rf
  have lt_b := hb0.lt
  refine lv_iload_n hx hb dJ13_copyOfRange_0 rfl (lv_at hl 1 rfl) ?_
  refine lv_if_ne (tgt := 10) hx hb dJ13_copyOfRange_1 (by decide) (fun c_1 => ?_) (fun c_1 => ?_)
  · skip
    have c_1 := mt (ai_eq (a := u) (b := 0) (rfl) (rfl) (by omega) (by omega)).mpr c_1
    refine lv_aload_n hx hb dJ13_copyOfRange_10 rfl (lv_at hl 0 rfl) ?_
    refine lv_iload_n hx hb dJ13_copyOfRange_11 rfl (lv_at hl 1 rfl) ?_
    refine lv_iload_n hx hb dJ13_copyOfRange_12 rfl (lv_at hl 2 rfl) ?_
    refine gcS3_r hCF hwm hl.1 (m_copyRangeB l z H0 b u v n true f hu hv hn hb0 hf ) (lw_S q478 q479 q73 q480) yd_J13_copyOfRangeByte hS (fun q h => Nat.le_trans hS.1 h) ⟨Nat.le_of_ble_eq_true rfl, Nat.le_of_ble_eq_true rfl⟩ ⟨by first | omega | (dsimp only; omega), by first | omega | (dsimp only; omega)⟩ (Nat.le_of_ble_eq_true rfl) dJ13_copyOfRange_13 (fun r_2 H_1 locs hp hex hS => ?_)
    have sz_H_1 : H0.size ≤ H_1.size := hex.1
    have hgx := hex.x
    clear hex
    have hb0 := hb0.x hgx
    obtain ⟨hr1, hr2⟩ := hp
    have lt_r_2 := hr2.lt
    refine g_aret hx hb hr hlocks (Or.inr ⟨_, rfl⟩) hS (by first | omega | (dsimp only; omega)) (by first | omega | (dsimp only; omega)) ?_ dJ13_copyOfRange_16
    exact ⟨by omega, hr2⟩
  · skip
    have c_1 := (ai_eq (a := u) (b := 0) (rfl) (rfl) (by omega) (by omega)).mp c_1
    refine lv_iload_n hx hb dJ13_copyOfRange_4 rfl (lv_at hl 2 rfl) ?_
    refine lv_aload_n hx hb dJ13_copyOfRange_5 rfl (lv_at hl 0 rfl) ?_
    refine gw_len hx hb hal hb0 dJ13_copyOfRange_6 ?_
    refine lv_icmp_eq (tgt := 17) hx hb dJ13_copyOfRange_7 (by decide) (fun c_7 => ?_) (fun c_7 => ?_)
    · skip
      have c_7 := (ai_eq (a := v) (b := n) (rfl) (rfl) (by omega) (by omega)).mp c_7
      refine lv_aload_n hx hb dJ13_copyOfRange_17 rfl (lv_at hl 0 rfl) ?_
      refine gw_clone (ty := .byte) hx hb (hml.trans hl.1.symm) hal hown (hts _ q276) (hts _ q277) (hts _ q278) (hts _ q279) (hts _ q280) (va_Nw.use rfl (va_Nw.warmC hwm hz.1)) rfl hb0 hS (fun i hi => hf _ (by omega) (by omega)) (Nat.le_of_ble_eq_true rfl) (Nat.le_of_ble_eq_true rfl) (by first | omega | (dsimp only; omega)) (by first | omega | (dsimp only; omega)) dJ13_copyOfRange_18 (fun q_3 H_4 eq_3 zq_3 hgx h_q_3 hS => ?_)
      have hb0 := hb0.x hgx
      have h_q_3 : gI z true .byte H_4 q_3 n f := h_q_3
      refine gw_castA hx hb hal hown (hts _ q282) h_q_3 rfl dJ13_copyOfRange_21 ?_
      refine g_aret hx hb hr hlocks (Or.inr ⟨_, rfl⟩) hS (by first | omega | (dsimp only; omega)) (by first | omega | (dsimp only; omega)) ?_ dJ13_copyOfRange_24
      have c_7 : v = n := by omega
      have c_1 : u = 0 := by omega
      subst c_7 c_1
      refine ⟨by omega, ?_⟩
      refine gA.cg h_q_3 ?_
      intro j hj
      simp
    · skip
      have c_7 := mt (ai_eq (a := v) (b := n) (rfl) (rfl) (by omega) (by omega)).mpr c_7
      refine lv_aload_n hx hb dJ13_copyOfRange_10 rfl (lv_at hl 0 rfl) ?_
      refine lv_iload_n hx hb dJ13_copyOfRange_11 rfl (lv_at hl 1 rfl) ?_
      refine lv_iload_n hx hb dJ13_copyOfRange_12 rfl (lv_at hl 2 rfl) ?_
      refine gcS3_r hCF hwm hl.1 (m_copyRangeB l z H0 b u v n true f hu hv hn hb0 hf ) (lw_S q478 q479 q73 q480) yd_J13_copyOfRangeByte hS (fun q h => Nat.le_trans hS.1 h) ⟨Nat.le_of_ble_eq_true rfl, Nat.le_of_ble_eq_true rfl⟩ ⟨by first | omega | (dsimp only; omega), by first | omega | (dsimp only; omega)⟩ (Nat.le_of_ble_eq_true rfl) dJ13_copyOfRange_13 (fun r_6 H_5 locs hp hex hS => ?_)
      have sz_H_5 : H0.size ≤ H_5.size := hex.1
      have hgx := hex.x
      clear hex
      have hb0 := hb0.x hgx
      obtain ⟨hr1, hr2⟩ := hp
      have lt_r_6 := hr2.lt
      refine g_aret hx hb hr hlocks (Or.inr ⟨_, rfl⟩) hS (by first | omega | (dsimp only; omega)) (by first | omega | (dsimp only; omega)) ?_ dJ13_copyOfRange_16
      exact ⟨by omega, hr2⟩
set_option maxHeartbeats 1000000 in
theorem m_initS3 (l : Launch) (z : State) (H0 : Heap) (a : Nat) (b : Nat)  (hO : gO z true RJ5 TJ5 4 H0 a [.null, .int 0, .int 0, .int 0]) : Met l yJ5_init_3 (ws_ yJ5_init_3 cJ5_init_3 3 (none)) { frames := 1, cells := 0, slots := 0, locals := 12 } (gPc z H0 [.ref a, .ref b, .int 0]) (gRv (fun q => q = a) H0 (fun H1 => gO z true RJ5 TJ5 4 H1 a [.ref b, .int 0, .int 0, .int 0])) 0 0 (fun q => q = a) := by
  refine g_start (by decide +kernel) (Nat.le_of_ble_eq_true rfl) ?_
  intro p e s m below meth c ls hx hb hr hlocks hml hown hname hts hwm hl
  have hown : s.vm.findClass "java/lang/String" = some m.cls := hown
  have hal : z.vm.Alike s.vm := hwm.alike
  have hCF : CallFix p m c cJ5_init_3 3 s [.ref a, .ref b, .int 0].toArray lw_all "java/lang/String" := ⟨hx, hb, hml, hown, hts⟩
  have hl : lv_has ls 3 [(0, .ref a), (1, .ref b), (2, .int 0)] := hl
  have hS : va_S (fun q => q = a) H0 H0 [] := va_S.rf
  have lt_a := hO.lt
  refine lv_aload_n hx hb dJ5_init_3_0 rfl (lv_at hl 0 rfl) ?_
  refine W.objInit hx hb hown (hts _ q460) (hts _ q110) (hts _ q111) rfl (by rw [hml]; exact hl.1) rfl dJ5_init_3_1 (Nat.le_of_ble_eq_true rfl) (Nat.le_of_ble_eq_true rfl) ?_
  refine W.eq (g2 := F0 m 4 ls []) rfl ?_
  refine lv_aload_n hx hb dJ5_init_3_4 rfl (lv_at hl 0 rfl) ?_
  refine lv_aload_n hx hb dJ5_init_3_5 rfl (lv_at hl 1 rfl) ?_
  refine gw_putF (C := RJ5) (T := TJ5) (N := 4) (ty := (.array .byte)) (v := .ref b) hx hb hts in_J5 tyJ5 tyJ5_ok nmJ5 (hts _ q166) hown hal hO hS (by have hsz := hS.1; (try dsimp only [gfr]) <;> omega) 0 (by decide) (hts _ q523) (fun _ h9 => h9) rfl hname rfl (by decide +kernel) (rfl) (rfl) (Nat.le_of_ble_eq_true rfl) dJ5_init_3_6 (fun H_1 locs h_new hch hS => ?_)
  have sz_H_1 := hch.1
  clear hch
  have hO : gO z true RJ5 TJ5 4 H_1 a [.ref b, .int 0, .int 0, .int 0] := h_new
  refine lv_aload_n hx hb dJ5_init_3_9 rfl (lv_at hl 0 rfl) ?_
  refine lv_iload_n hx hb dJ5_init_3_10 rfl (lv_at hl 2 rfl) ?_
  refine gw_putF (C := RJ5) (T := TJ5) (N := 4) (ty := .byte) (v := .int 0) hx hb hts in_J5 tyJ5 tyJ5_ok nmJ5 (hts _ q166) hown hal hO hS (by have hsz := hS.1; (try dsimp only [gfr]) <;> omega) 1 (by decide) (hts _ q524) (fun _ h9 => h9) rfl hname rfl (by decide +kernel) (rfl) (rfl) (Nat.le_of_ble_eq_true rfl) dJ5_init_3_11 (fun H_2 locs h_new hch hS => ?_)
  have sz_H_2 := hch.1
  clear hch
  have hO : gO z true RJ5 TJ5 4 H_2 a [.ref b, .int 0, .int 0, .int 0] := h_new
  refine g_vret hx hb hr hlocks hS (Nat.le_of_ble_eq_true rfl) (Nat.le_of_ble_eq_true rfl) ?_ dJ5_init_3_14
  exact hO
set_option maxHeartbeats 1000000 in
theorem m_newString (l : Launch) (z : State) (H0 : Heap) (b : Nat) (u j : Nat) (T : List Nat) (hj : 0 < j) (huj : u + j ≤ T.length) (hT9 : T.length < 268435456) (hB : gI z true .byte H0 b T.length (bof T)) (hT : tx T) (hzw : zW z) : Met l yJ15_newString (ws_ yJ15_newString cJ15_newString 3 (some (.object "java/lang/String"))) { frames := 3, cells := 2, slots := (4 + j), locals := 86 } (gPc z H0 [.ref b, .int (nI u), .int (nI j)]) (gRr (gfr H0) H0 (fun r H1 => H0.size ≤ r ∧ ∃ b1, H0.size ≤ b1 ∧ gS z true H1 r b1 (sub T u j))) 2 (4 + j) (gfr H0) := by
  refine g_start (by decide +kernel) (Nat.le_of_ble_eq_true rfl) ?_
  intro p e s m below meth c ls hx hb hr hlocks hml hown hname hts hwm hl
  have hown : s.vm.findClass "java/lang/StringLatin1" = some m.cls := hown
  have hal : z.vm.Alike s.vm := hwm.alike
  have hCF : CallFix p m c cJ15_newString 3 s [.ref b, .int (nI u), .int (nI j)].toArray lw_all "java/lang/StringLatin1" := ⟨hx, hb, hml, hown, hts⟩
  have hl : lv_has ls 3 [(0, .ref b), (1, .int (nI u)), (2, .int (nI j))] := hl
  have hS : va_S (gfr H0) H0 H0 [] := va_S.rf
  have lt_b := hB.lt
  refine lv_iload_n hx hb dJ15_newString_0 rfl (lv_at hl 2 rfl) ?_
  refine lv_if_ne (tgt := 7) hx hb dJ15_newString_1 (by decide) (fun c_1 => ?_) (fun c_1 => False.elim (by
    have c_1 := (ai_eq (a := j) (b := 0) (rfl) (rfl) (by omega) (by omega)).mp c_1
    omega))
  have c_1 := mt (ai_eq (a := j) (b := 0) (rfl) (rfl) (by omega) (by omega)).mpr c_1
  refine gw_new (C := RJ5) (T := TJ5) (N := 4) (fs := [.null, .int 0, .int 0, .int 0]) hx hb hts in_J5 tyJ5 tyJ5_ok hown hal (hts _ q706) (hts _ q166) (hts _ q64) hS (by decide +kernel) (by first | omega | (dsimp only; omega)) (by first | omega | (dsimp only; omega)) dJ15_newString_7 (fun q_1 H_2 eq_1 zq_1 hgx h_q_1 hS => ?_)
  have hB := hB.x hgx
  refine lv_dup hx hb dJ15_newString_10 rfl ?_
  refine lv_aload_n hx hb dJ15_newString_11 rfl (lv_at hl 0 rfl) ?_
  refine lv_iload_n hx hb dJ15_newString_12 rfl (lv_at hl 1 rfl) ?_
  refine lv_iload_n hx hb dJ15_newString_13 rfl (lv_at hl 1 rfl) ?_
  refine lv_iload_n hx hb dJ15_newString_14 rfl (lv_at hl 2 rfl) ?_
  refine lv_iadd hx hb dJ15_newString_15 ?_
  refine g_topi (v := nI (u + j)) (ai_add (a := u) (b := j) (rfl) (rfl)) ?_
  refine gcS3_r hCF hwm hl.1 (m_copyRange l z H_2 b u (u + j) T.length (bof T) (by omega) huj hT9 hB (fun i _ _ => fit_bof hT i) hzw ) (lw_S q707 q476 q73 q477) yd_J13_copyOfRange hS (fun q h => Nat.le_trans hS.1 h) ⟨Nat.le_of_ble_eq_true rfl, Nat.le_of_ble_eq_true rfl⟩ ⟨by first | omega | (dsimp only; omega), by first | omega | (dsimp only; omega)⟩ (Nat.le_of_ble_eq_true rfl) dJ15_newString_16 (fun rc H_3 locs hp hex hS => ?_)
  have sz_H_3 : H_2.size ≤ H_3.size := hex.1
  have hgx := hex.x
  clear hex
  have hB := hB.x hgx
  have h_q_1 := h_q_1.x hgx
  obtain ⟨hr1, hr2⟩ := hp
  have lt_rc := hr2.lt
  refine lv_iconst (v := 0) hx hb dJ15_newString_19 (by decide) ?_
  refine gcI2_v hCF hwm hl.1 (m_initS3 l z H_3 q_1 rc h_q_1 ) q708 q709 q64 q710 rfl yd_J5_init_3 hS (fun q h => by have hsz := hS.1; (try dsimp only [gfr] at h ⊢) <;> omega) ⟨Nat.le_of_ble_eq_true rfl, Nat.le_of_ble_eq_true rfl⟩ ⟨by first | omega | (dsimp only; omega), by first | omega | (dsimp only; omega)⟩ (Nat.le_of_ble_eq_true rfl) dJ15_newString_20 (fun H_4 locs hp hex hS => ?_)
  have sz_H_4 : H_3.size ≤ H_4.size := hex.1
  have hB := hB.ex hex (by intro h; (try dsimp only [gfr] at h) <;> omega)
  have hr2 := hr2.ex hex (by intro h; (try dsimp only [gfr] at h) <;> omega)
  have hN := hp
  refine g_aret hx hb hr hlocks (Or.inl ⟨_, rfl⟩) hS (by first | omega | (dsimp only; omega)) (by first | omega | (dsimp only; omega)) ?_ dJ15_newString_23
  refine ⟨by omega, rc, by omega, 0, 0, hN, ?_, sub_tx hT u j⟩
  rw [sub_len huj]
  have hr3 : gI z true .byte H_4 rc j (fun i => (bof T) (u + i)) := by
    have q := hr2
    rwa [show u + j - u = j by omega] at q
  exact gA.cg hr3 fun i hi => by
    show Value.int _ = Value.int _
    rw [bof_sub hi]
set_option maxHeartbeats 1000000 in
theorem m_checkFT_n (l : Launch) (z : State) (H0 : Heap)  (u v n : Nat) (hu : u ≤ v) (hv : v ≤ n) (hn : n < 2147483648) : Met l yJ14_checkFromToIndex (ws_ yJ14_checkFromToIndex cJ14_checkFromToIndex 4 (some .int)) { frames := 0, cells := 0, slots := 0, locals := 0 } (gPc z H0 [.int (nI u), .int (nI v), .int (nI n),  .null]) (gPi H0 (fun r => r = nI u)) 0 0 gno := by
  refine g_start (by decide +kernel) (Nat.le_of_ble_eq_true rfl) ?_
  intro p e s m below meth c ls hx hb hr hlocks hml hown hname hts hwm hl
  have hown : s.vm.findClass "jdk/internal/util/Preconditions" = some m.cls := hown
  have hal : z.vm.Alike s.vm := hwm.alike
  have hCF : CallFix p m c cJ14_checkFromToIndex 4 s [.int (nI u), .int (nI v), .int (nI n),  .null].toArray lw_all "jdk/internal/util/Preconditions" := ⟨hx, hb, hml, hown, hts⟩
  have hl : lv_has ls 4 [(0, .int (nI u)), (1, .int (nI v)), (2, .int (nI n)), (3,  .null)] := hl
  refine lv_iload_n hx hb dJ14_checkFromToIndex_0 rfl (lv_at hl 0 rfl) ?_
  refine lv_if_lt (tgt := 14) hx hb dJ14_checkFromToIndex_1 (by decide) (fun c_1 => False.elim (by
    have c_1 := (ai_lt (a := u) (b := 0) (rfl) (rfl) (by omega) (by omega)).mp c_1
    omega)) (fun c_1 => ?_)
  have c_1 := mt (ai_lt (a := u) (b := 0) (rfl) (rfl) (by omega) (by omega)).mpr c_1
  refine lv_iload_n hx hb dJ14_checkFromToIndex_4 rfl (lv_at hl 0 rfl) ?_
  refine lv_iload_n hx hb dJ14_checkFromToIndex_5 rfl (lv_at hl 1 rfl) ?_
  refine lv_icmp_gt (tgt := 14) hx hb dJ14_checkFromToIndex_6 (by decide) (fun c_6 => False.elim (by
    have c_6 := (ai_lt (a := v) (b := u) (rfl) (rfl) (by omega) (by omega)).mp c_6
    omega)) (fun c_6 => ?_)
  have c_6 := mt (ai_lt (a := v) (b := u) (rfl) (rfl) (by omega) (by omega)).mpr c_6
  refine lv_iload_n hx hb dJ14_checkFromToIndex_9 rfl (lv_at hl 1 rfl) ?_
  refine lv_iload_n hx hb dJ14_checkFromToIndex_10 rfl (lv_at hl 2 rfl) ?_
  refine lv_icmp_le (tgt := 22) hx hb dJ14_checkFromToIndex_11 (by decide) (fun c_11 => ?_) (fun c_11 => False.elim (by
    have c_11 := mt (ai_le (a := v) (b := n) (rfl) (rfl) (by omega) (by omega)).mpr c_11
    omega))
  have c_11 := (ai_le (a := v) (b := n) (rfl) (rfl) (by omega) (by omega)).mp c_11
  refine lv_iload_n hx hb dJ14_checkFromToIndex_22 rfl (lv_at hl 0 rfl) ?_
  refine g_iretP hx hb hr hlocks ?_ dJ14_checkFromToIndex_23
  rfl
set_option maxHeartbeats 1000000 in
theorem m_checkFT_r (l : Launch) (z : State) (H0 : Heap) (fa : Nat) (u v n : Nat) (hu : u ≤ v) (hv : v ≤ n) (hn : n < 2147483648) : Met l yJ14_checkFromToIndex (ws_ yJ14_checkFromToIndex cJ14_checkFromToIndex 4 (some .int)) { frames := 0, cells := 0, slots := 0, locals := 0 } (gPc z H0 [.int (nI u), .int (nI v), .int (nI n), .ref fa]) (gPi H0 (fun r => r = nI u)) 0 0 gno := by
  refine g_start (by decide +kernel) (Nat.le_of_ble_eq_true rfl) ?_
  intro p e s m below meth c ls hx hb hr hlocks hml hown hname hts hwm hl
  have hown : s.vm.findClass "jdk/internal/util/Preconditions" = some m.cls := hown
  have hal : z.vm.Alike s.vm := hwm.alike
  have hCF : CallFix p m c cJ14_checkFromToIndex 4 s [.int (nI u), .int (nI v), .int (nI n), .ref fa].toArray lw_all "jdk/internal/util/Preconditions" := ⟨hx, hb, hml, hown, hts⟩
  have hl : lv_has ls 4 [(0, .int (nI u)), (1, .int (nI v)), (2, .int (nI n)), (3, .ref fa)] := hl
  refine lv_iload_n hx hb dJ14_checkFromToIndex_0 rfl (lv_at hl 0 rfl) ?_
  refine lv_if_lt (tgt := 14) hx hb dJ14_checkFromToIndex_1 (by decide) (fun c_1 => False.elim (by
    have c_1 := (ai_lt (a := u) (b := 0) (rfl) (rfl) (by omega) (by omega)).mp c_1
    omega)) (fun c_1 => ?_)
  have c_1 := mt (ai_lt (a := u) (b := 0) (rfl) (rfl) (by omega) (by omega)).mpr c_1
  refine lv_iload_n hx hb dJ14_checkFromToIndex_4 rfl (lv_at hl 0 rfl) ?_
  refine lv_iload_n hx hb dJ14_checkFromToIndex_5 rfl (lv_at hl 1 rfl) ?_
  refine lv_icmp_gt (tgt := 14) hx hb dJ14_checkFromToIndex_6 (by decide) (fun c_6 => False.elim (by
    have c_6 := (ai_lt (a := v) (b := u) (rfl) (rfl) (by omega) (by omega)).mp c_6
    omega)) (fun c_6 => ?_)
  have c_6 := mt (ai_lt (a := v) (b := u) (rfl) (rfl) (by omega) (by omega)).mpr c_6
  refine lv_iload_n hx hb dJ14_checkFromToIndex_9 rfl (lv_at hl 1 rfl) ?_
  refine lv_iload_n hx hb dJ14_checkFromToIndex_10 rfl (lv_at hl 2 rfl) ?_
  refine lv_icmp_le (tgt := 22) hx hb dJ14_checkFromToIndex_11 (by decide) (fun c_11 => ?_) (fun c_11 => False.elim (by
    have c_11 := mt (ai_le (a := v) (b := n) (rfl) (rfl) (by omega) (by omega)).mpr c_11
    omega))
  have c_11 := (ai_le (a := v) (b := n) (rfl) (rfl) (by omega) (by omega)).mp c_11
  refine lv_iload_n hx hb dJ14_checkFromToIndex_22 rfl (lv_at hl 0 rfl) ?_
  refine g_iretP hx hb hr hlocks ?_ dJ14_checkFromToIndex_23
  rfl
theorem m_checkFT (l : Launch) (z : State) (H0 : Heap)  (fa : Value) (u v n : Nat) (hu : u ≤ v) (hv : v ≤ n) (hn : n < 2147483648) (hfa : isR fa) : Met l yJ14_checkFromToIndex (ws_ yJ14_checkFromToIndex cJ14_checkFromToIndex 4 (some .int)) { frames := 0, cells := 0, slots := 0, locals := 0 } (gPc z H0 [.int (nI u), .int (nI v), .int (nI n), fa]) (gPi H0 (fun r => r = nI u)) 0 0 gno := by
  rcases hfa with e | ⟨a, e⟩ <;> subst e
  · exact m_checkFT_n l z H0  u v n hu hv hn
  · exact m_checkFT_r l z H0  a u v n hu hv hn
set_option maxHeartbeats 1000000 in
theorem m_checkBE (l : Launch) (z : State) (H0 : Heap)  (u v n : Nat) {A : Nat → Prop} (k : Nat → Nat) (fv : Nat → Value) (hu : u ≤ v) (hv : v ≤ n) (hn : n < 2147483648) (hs : sS z k fv A H0) : Met l yJ5_checkBoundsBeginEnd (ws_ yJ5_checkBoundsBeginEnd cJ5_checkBoundsBeginEnd 3 (none)) { frames := 1, cells := 0, slots := 0, locals := 23 } (gPc z H0 [.int (nI u), .int (nI v), .int (nI n)]) (gPv H0 (True)) 0 0 gno := by
  refine g_start (by decide +kernel) (Nat.le_of_ble_eq_true rfl) ?_
  intro p e s m below meth c ls hx hb hr hlocks hml hown hname hts hwm hl
  have hown : s.vm.findClass "java/lang/String" = some m.cls := hown
  have hal : z.vm.Alike s.vm := hwm.alike
  have hCF : CallFix p m c cJ5_checkBoundsBeginEnd 3 s [.int (nI u), .int (nI v), .int (nI n)].toArray lw_all "java/lang/String" := ⟨hx, hb, hml, hown, hts⟩
  have hl : lv_has ls 3 [(0, .int (nI u)), (1, .int (nI v)), (2, .int (nI n))] := hl
  refine lv_iload_n hx hb dJ5_checkBoundsBeginEnd_0 rfl (lv_at hl 0 rfl) ?_
  refine lv_iload_n hx hb dJ5_checkBoundsBeginEnd_1 rfl (lv_at hl 1 rfl) ?_
  refine lv_iload_n hx hb dJ5_checkBoundsBeginEnd_2 rfl (lv_at hl 2 rfl) ?_
  refine gw_getsP hx hb hal hs.2.1 hown (hts _ q307) (fun _ h9 => h9) dJ5_checkBoundsBeginEnd_3 ?_
  refine gcS4_iP hCF hwm hl.1 (m_checkFT l z H0 (fv 0) u v n hu hv hn (hs.2.2.2.2 0) ) (lw_S q309 q310 q75 q311) yd_J14_checkFromToIndex ⟨Nat.le_of_ble_eq_true rfl, Nat.le_of_ble_eq_true rfl⟩ ⟨Nat.le_of_ble_eq_true rfl, Nat.le_of_ble_eq_true rfl⟩ (Nat.le_of_ble_eq_true rfl) dJ5_checkBoundsBeginEnd_6 (fun r_1 hp => ?_)
  subst hp
  refine lv_pop hx hb dJ5_checkBoundsBeginEnd_9 rfl ?_
  refine g_vretP hx hb hr hlocks ?_ dJ5_checkBoundsBeginEnd_10
  trivial
set_option maxHeartbeats 1000000 in
theorem m_checkOff (l : Launch) (z : State) (H0 : Heap)  (u n : Nat) {A : Nat → Prop} (k : Nat → Nat) (fv : Nat → Value) (hu : u ≤ n) (hn : n < 2147483648) (hs : sS z k fv A H0) : Met l yJ5_checkOffset (ws_ yJ5_checkOffset cJ5_checkOffset 2 (none)) { frames := 1, cells := 0, slots := 0, locals := 23 } (gPc z H0 [.int (nI u), .int (nI n)]) (gPv H0 (True)) 0 0 gno := by
  refine g_start (by decide +kernel) (Nat.le_of_ble_eq_true rfl) ?_
  intro p e s m below meth c ls hx hb hr hlocks hml hown hname hts hwm hl
  have hown : s.vm.findClass "java/lang/String" = some m.cls := hown
  have hal : z.vm.Alike s.vm := hwm.alike
  have hCF : CallFix p m c cJ5_checkOffset 2 s [.int (nI u), .int (nI n)].toArray lw_all "java/lang/String" := ⟨hx, hb, hml, hown, hts⟩
  have hl : lv_has ls 2 [(0, .int (nI u)), (1, .int (nI n))] := hl
  refine lv_iload_n hx hb dJ5_checkOffset_0 rfl (lv_at hl 0 rfl) ?_
  refine lv_iload_n hx hb dJ5_checkOffset_1 rfl (lv_at hl 1 rfl) ?_
  refine lv_iload_n hx hb dJ5_checkOffset_2 rfl (lv_at hl 1 rfl) ?_
  refine gw_getsP hx hb hal hs.2.1 hown (hts _ q307) (fun _ h9 => h9) dJ5_checkOffset_3 ?_
  refine gcS4_iP hCF hwm hl.1 (m_checkFT l z H0 (fv 0) u n n hu (Nat.le_refl _) hn (hs.2.2.2.2 0) ) (lw_S q309 q310 q75 q311) yd_J14_checkFromToIndex ⟨Nat.le_of_ble_eq_true rfl, Nat.le_of_ble_eq_true rfl⟩ ⟨Nat.le_of_ble_eq_true rfl, Nat.le_of_ble_eq_true rfl⟩ (Nat.le_of_ble_eq_true rfl) dJ5_checkOffset_6 (fun r_1 hp => ?_)
  subst hp
  refine lv_pop hx hb dJ5_checkOffset_9 rfl ?_
  refine g_vretP hx hb hr hlocks ?_ dJ5_checkOffset_10
  trivial
set_option maxHeartbeats 1000000 in
theorem m_substring (l : Launch) (z : State) (H0 : Heap) (a : Nat) (u v b : Nat) (T : List Nat) (k : Nat → Nat) (fv : Nat → Value) (huv : u < v) (hv : v ≤ T.length) (hT9 : T.length < 268435456) (hstr : gS z true H0 a b T) (hs : sS z k fv (gfr H0) H0) (hzw : zW z) : Met l yJ5_substring (ws_ yJ5_substring cJ5_substring 5 (some (.object "java/lang/String"))) { frames := 4, cells := 2, slots := (4 + (v - u)), locals := 108 } (gPc z H0 [.ref a, .int (nI u), .int (nI v)]) (gRr (gfr H0) H0 (fun r H1 => ∃ b1, gS z true H1 r b1 (sub T u (v - u)) ∧ ((r = a ∧ b1 = b) ∨ (H0.size ≤ r ∧ H0.size ≤ b1)))) 2 (4 + (v - u)) (gfr H0) := by
  refine g_start (by decide +kernel) (Nat.le_of_ble_eq_true rfl) ?_
  intro p e s m below meth c ls hx hb hr hlocks hml hown hname hts hwm hl
  have hown : s.vm.findClass "java/lang/String" = some m.cls := hown
  have hal : z.vm.Alike s.vm := hwm.alike
  have hCF : CallFix p m c cJ5_substring 5 s [.ref a, .int (nI u), .int (nI v)].toArray lw_all "java/lang/String" := ⟨hx, hb, hml, hown, hts⟩
  have hl : lv_has ls 5 [(0, .ref a), (1, .int (nI u)), (2, .int (nI v))] := hl
  have hS : va_S (gfr H0) H0 H0 [] := va_S.rf
  obtain ⟨h, hzz, hO, hB, hT⟩ := hstr
  have lt_a := hO.lt
  have lt_b := hB.lt
  refine lv_aload_n hx hb dJ5_substring_0 rfl (lv_at hl 0 rfl) ?_
  refine gcV0_iP hCF hwm hl.1 (m_length l z H0 a true b T k fv ⟨h, hzz, hO, hB, hT⟩ hs ) (lw_V q573 q219 q220 q64 q221) ydv_J5_length (hO.recv hal) ⟨Nat.le_of_ble_eq_true rfl, Nat.le_of_ble_eq_true rfl⟩ ⟨by first | omega | (dsimp only; omega), by first | omega | (dsimp only; omega)⟩ (Nat.le_of_ble_eq_true rfl) dJ5_substring_1 (fun r_1 hp => ?_)
  subst hp
  refine lv_istore_n hx hb dJ5_substring_4 rfl hl (by decide) rfl (fun ls hl => ?_)
  have hl : lv_has ls 5 [(3, .int (nI T.length)), (0, .ref a), (1, .int (nI u)), (2, .int (nI v))] := hl
  refine lv_iload_n hx hb dJ5_substring_5 rfl (lv_at hl 2 rfl) ?_
  refine lv_iload_n hx hb dJ5_substring_6 rfl (lv_at hl 3 rfl) ?_
  refine lv_iload_n hx hb dJ5_substring_7 rfl (lv_at hl 0 rfl) ?_
  refine gcS3_vP hCF hwm hl.1 (m_checkBE l z H0  u v T.length k fv (by omega) hv (by omega) hs ) (lw_S q701 q305 q64 q306) yd_J5_checkBoundsBeginEnd ⟨Nat.le_of_ble_eq_true rfl, Nat.le_of_ble_eq_true rfl⟩ ⟨by first | omega | (dsimp only; omega), by first | omega | (dsimp only; omega)⟩ (Nat.le_of_ble_eq_true rfl) dJ5_substring_8 (fun hp => ?_)
  clear hp
  refine lv_iload_n hx hb dJ5_substring_11 rfl (lv_at hl 2 rfl) ?_
  refine lv_if_ne (tgt := 22) hx hb dJ5_substring_12 (by decide) (fun c_12 => ?_) (fun c_12 => ?_)
  · skip
    have c_12 := mt (ai_eq (a := u) (b := 0) (rfl) (rfl) (by omega) (by omega)).mpr c_12
    refine lv_iload_n hx hb dJ5_substring_22 rfl (lv_at hl 3 rfl) ?_
    refine lv_iload_n hx hb dJ5_substring_23 rfl (lv_at hl 2 rfl) ?_
    refine lv_isub hx hb dJ5_substring_24 ?_
    refine g_topi (v := nI (v - u)) (ai_sub (a := v) (b := u) (rfl) (rfl) (by omega)) ?_
    refine lv_istore hx hb dJ5_substring_25 hl (by decide) rfl (fun ls hl => ?_)
    have hl : lv_has ls 5 [(4, .int (nI (v - u))), (3, .int (nI T.length)), (0, .ref a), (1, .int (nI u)), (2, .int (nI v))] := hl
    refine lv_aload_n hx hb dJ5_substring_27 rfl (lv_at hl 2 rfl) ?_
    refine gcV0_iP hCF hwm hl.1 (m_isLatin1 l z H0 a true b T k fv ⟨h, hzz, hO, hB, hT⟩ hs ) (lw_V q542 q543 q544 q64 q545) ydv_J5_isLatin1 (hO.recv hal) ⟨Nat.le_of_ble_eq_true rfl, Nat.le_of_ble_eq_true rfl⟩ ⟨by first | omega | (dsimp only; omega), by first | omega | (dsimp only; omega)⟩ (Nat.le_of_ble_eq_true rfl) dJ5_substring_28 (fun r_2 hp => ?_)
    subst hp
    refine lv_if_eq (tgt := 47) hx hb dJ5_substring_31 (by decide) (fun c_31 => absurd c_31 (by decide)) (fun c_31 => ?_)
    refine lv_aload_n hx hb dJ5_substring_34 rfl (lv_at hl 2 rfl) ?_
    refine gw_get (C := RJ5) (T := TJ5) (N := 4) (v := .ref b) hx hb hts in_J5 hown hal hO 0 (by decide) (hts _ q523) (fun _ h9 => h9) rfl dJ5_substring_35 ?_
    refine lv_iload_n hx hb dJ5_substring_38 rfl (lv_at hl 3 rfl) ?_
    refine lv_iload hx hb dJ5_substring_39 (lv_at hl 0 rfl) ?_
    refine gcS3_r hCF hwm hl.1 (m_newString l z H0 b u (v - u) T (by omega) (by omega) hT9 hB hT hzw ) (lw_S q702 q703 q76 q704) yd_J15_newString hS (fun q h => Nat.le_trans hS.1 h) ⟨Nat.le_of_ble_eq_true rfl, Nat.le_of_ble_eq_true rfl⟩ ⟨by first | omega | (dsimp only; omega), by first | omega | (dsimp only; omega)⟩ (Nat.le_of_ble_eq_true rfl) dJ5_substring_41 (fun rc H_3 locs hp hex hS => ?_)
    have sz_H_3 : H0.size ≤ H_3.size := hex.1
    have hgx := hex.x
    clear hex
    have hO := hO.x hgx
    have hB := hB.x hgx
    obtain ⟨hr1, b1, hb1, hr2⟩ := hp
    refine lv_goto (tgt := 57) hx hb dJ5_substring_44 (by decide) ?_
    refine g_aret hx hb hr hlocks (Or.inl ⟨_, rfl⟩) hS (by first | omega | (dsimp only; omega)) (by first | omega | (dsimp only; omega)) ?_ dJ5_substring_57
    exact ⟨b1, hr2, Or.inr ⟨by omega, by omega⟩⟩
  · skip
    have c_12 := (ai_eq (a := u) (b := 0) (rfl) (rfl) (by omega) (by omega)).mp c_12
    refine lv_iload_n hx hb dJ5_substring_15 rfl (lv_at hl 3 rfl) ?_
    refine lv_iload_n hx hb dJ5_substring_16 rfl (lv_at hl 0 rfl) ?_
    refine lv_icmp_ne (tgt := 22) hx hb dJ5_substring_17 (by decide) (fun c_17 => ?_) (fun c_17 => ?_)
    · skip
      have c_17 := mt (ai_eq (a := v) (b := T.length) (rfl) (rfl) (by omega) (by omega)).mpr c_17
      refine lv_iload_n hx hb dJ5_substring_22 rfl (lv_at hl 3 rfl) ?_
      refine lv_iload_n hx hb dJ5_substring_23 rfl (lv_at hl 2 rfl) ?_
      refine lv_isub hx hb dJ5_substring_24 ?_
      refine g_topi (v := nI (v - u)) (ai_sub (a := v) (b := u) (rfl) (rfl) (by omega)) ?_
      refine lv_istore hx hb dJ5_substring_25 hl (by decide) rfl (fun ls hl => ?_)
      have hl : lv_has ls 5 [(4, .int (nI (v - u))), (3, .int (nI T.length)), (0, .ref a), (1, .int (nI u)), (2, .int (nI v))] := hl
      refine lv_aload_n hx hb dJ5_substring_27 rfl (lv_at hl 2 rfl) ?_
      refine gcV0_iP hCF hwm hl.1 (m_isLatin1 l z H0 a true b T k fv ⟨h, hzz, hO, hB, hT⟩ hs ) (lw_V q542 q543 q544 q64 q545) ydv_J5_isLatin1 (hO.recv hal) ⟨Nat.le_of_ble_eq_true rfl, Nat.le_of_ble_eq_true rfl⟩ ⟨by first | omega | (dsimp only; omega), by first | omega | (dsimp only; omega)⟩ (Nat.le_of_ble_eq_true rfl) dJ5_substring_28 (fun r_4 hp => ?_)
      subst hp
      refine lv_if_eq (tgt := 47) hx hb dJ5_substring_31 (by decide) (fun c_31 => absurd c_31 (by decide)) (fun c_31 => ?_)
      refine lv_aload_n hx hb dJ5_substring_34 rfl (lv_at hl 2 rfl) ?_
      refine gw_get (C := RJ5) (T := TJ5) (N := 4) (v := .ref b) hx hb hts in_J5 hown hal hO 0 (by decide) (hts _ q523) (fun _ h9 => h9) rfl dJ5_substring_35 ?_
      refine lv_iload_n hx hb dJ5_substring_38 rfl (lv_at hl 3 rfl) ?_
      refine lv_iload hx hb dJ5_substring_39 (lv_at hl 0 rfl) ?_
      refine gcS3_r hCF hwm hl.1 (m_newString l z H0 b u (v - u) T (by omega) (by omega) hT9 hB hT hzw ) (lw_S q702 q703 q76 q704) yd_J15_newString hS (fun q h => Nat.le_trans hS.1 h) ⟨Nat.le_of_ble_eq_true rfl, Nat.le_of_ble_eq_true rfl⟩ ⟨by first | omega | (dsimp only; omega), by first | omega | (dsimp only; omega)⟩ (Nat.le_of_ble_eq_true rfl) dJ5_substring_41 (fun rc H_5 locs hp hex hS => ?_)
      have sz_H_5 : H0.size ≤ H_5.size := hex.1
      have hgx := hex.x
      clear hex
      have hO := hO.x hgx
      have hB := hB.x hgx
      obtain ⟨hr1, b1, hb1, hr2⟩ := hp
      refine lv_goto (tgt := 57) hx hb dJ5_substring_44 (by decide) ?_
      refine g_aret hx hb hr hlocks (Or.inl ⟨_, rfl⟩) hS (by first | omega | (dsimp only; omega)) (by first | omega | (dsimp only; omega)) ?_ dJ5_substring_57
      exact ⟨b1, hr2, Or.inr ⟨by omega, by omega⟩⟩
    · skip
      have c_17 := (ai_eq (a := v) (b := T.length) (rfl) (rfl) (by omega) (by omega)).mp c_17
      refine lv_aload_n hx hb dJ5_substring_20 rfl (lv_at hl 1 rfl) ?_
      refine g_aret hx hb hr hlocks (Or.inl ⟨_, rfl⟩) hS (by first | omega | (dsimp only; omega)) (by first | omega | (dsimp only; omega)) ?_ dJ5_substring_21
      have e : sub T u (v - u) = T := by
        unfold sub
        rw [show u = 0 by omega, show v - 0 = T.length by omega]
        simp
      rw [e]
      exact ⟨b, ⟨h, hzz, hO, hB, hT⟩, Or.inl ⟨rfl, rfl⟩⟩
set_option maxHeartbeats 1000000 in
theorem m_substring1 (l : Launch) (z : State) (H0 : Heap) (a : Nat) (u b : Nat) (T : List Nat) (k : Nat → Nat) (fv : Nat → Value) (huv : u < T.length) (hT9 : T.length < 268435456) (hstr : gS z true H0 a b T) (hs : sS z k fv (gfr H0) H0) (hzw : zW z) : Met l yJ5_substring_2 (ws_ yJ5_substring_2 cJ5_substring_2 2 (some (.object "java/lang/String"))) { frames := 5, cells := 2, slots := (4 + (T.length - u)), locals := 132 } (gPc z H0 [.ref a, .int (nI u)]) (gRr (gfr H0) H0 (fun r H1 => ∃ b1, gS z true H1 r b1 (sub T u (T.length - u)) ∧ ((r = a ∧ b1 = b) ∨ (H0.size ≤ r ∧ H0.size ≤ b1)))) 2 (4 + (T.length - u)) (gfr H0) := by
  refine g_start (by decide +kernel) (Nat.le_of_ble_eq_true rfl) ?_
  intro p e s m below meth c ls hx hb hr hlocks hml hown hname hts hwm hl
  have hown : s.vm.findClass "java/lang/String" = some m.cls := hown
  have hal : z.vm.Alike s.vm := hwm.alike
  have hCF : CallFix p m c cJ5_substring_2 2 s [.ref a, .int (nI u)].toArray lw_all "java/lang/String" := ⟨hx, hb, hml, hown, hts⟩
  have hl : lv_has ls 2 [(0, .ref a), (1, .int (nI u))] := hl
  have hS : va_S (gfr H0) H0 H0 [] := va_S.rf
  obtain ⟨h, hzz, hO, hB, hT⟩ := hstr
  have lt_a := hO.lt
  have lt_b := hB.lt
  refine lv_aload_n hx hb dJ5_substring_2_0 rfl (lv_at hl 0 rfl) ?_
  refine lv_iload_n hx hb dJ5_substring_2_1 rfl (lv_at hl 1 rfl) ?_
  refine lv_aload_n hx hb dJ5_substring_2_2 rfl (lv_at hl 0 rfl) ?_
  refine gcV0_iP hCF hwm hl.1 (m_length l z H0 a true b T k fv ⟨h, hzz, hO, hB, hT⟩ hs ) (lw_V q573 q219 q220 q64 q221) ydv_J5_length (hO.recv hal) ⟨Nat.le_of_ble_eq_true rfl, Nat.le_of_ble_eq_true rfl⟩ ⟨by first | omega | (dsimp only; omega), by first | omega | (dsimp only; omega)⟩ (Nat.le_of_ble_eq_true rfl) dJ5_substring_2_3 (fun r_1 hp => ?_)
  subst hp
  refine gcV2_r hCF hwm hl.1 (m_substring l z H0 a u T.length b T k fv huv (Nat.le_refl _) hT9 ⟨h, hzz, hO, hB, hT⟩ (hs.cur hS) hzw ) (lw_V q697 q698 q699 q64 q700) ydv_J5_substring (hO.recv hal) hS (fun q h => Nat.le_trans hS.1 h) ⟨Nat.le_of_ble_eq_true rfl, Nat.le_of_ble_eq_true rfl⟩ ⟨by first | omega | (dsimp only; omega), by first | omega | (dsimp only; omega)⟩ (Nat.le_of_ble_eq_true rfl) dJ5_substring_2_6 (fun rc H_2 locs hp hex hS => ?_)
  have sz_H_2 : H0.size ≤ H_2.size := hex.1
  have hgx := hex.x
  clear hex
  have hO := hO.x hgx
  have hB := hB.x hgx
  have hN := hp
  refine g_aret hx hb hr hlocks (Or.inl ⟨_, rfl⟩) hS (by first | omega | (dsimp only; omega)) (by first | omega | (dsimp only; omega)) ?_ dJ5_substring_2_9
  exact hN
theorem gO_fld {z : State} {w w2 : Bool} {C : String} {T : u_T} {N : Nat} {H : Heap} {a k : Nat} {fs fs2 : List Value} (h : gO z w C T N H a fs) (h2 : gO z w2 C T N H a fs2) (hk : k < N) : vp_V fs k = vp_V fs2 k := by
  obtain ⟨cell, q1, -, -, -, q5, -⟩ := h
  obtain ⟨cell2, r1, -, -, -, r5, -⟩ := h2
  cases q1.symm.trans r1
  obtain ⟨i, hi, e⟩ := q5 k hk
  obtain ⟨i2, hi2, e2⟩ := r5 k hk
  cases gSlot_uniq hi hi2
  exact Option.some.inj (e.symm.trans e2)
theorem gA_len {z : State} {w w2 : Bool} {ty ty2 : FieldType} {H : Heap} {b n n2 : Nat} {f f2 : Nat → Value} (h : gA z w ty H b n f) (h2 : gA z w2 ty2 H b n2 f2) (h3 : n < 2147483648) (h4 : n2 < 2147483648) : n = n2 ∧ ∀ j, j < n → f j = f2 j := by
  obtain ⟨cell, q1, -, -, -, q5, q6, -⟩ := h
  obtain ⟨cell2, r1, -, -, -, r5, r6, -⟩ := h2
  cases q1.symm.trans r1
  have e : n = n2 := (nI_eq h3 h4).mp (q5.symm.trans r5)
  subst e
  exact ⟨rfl, fun j hj => Option.some.inj ((q6 j hj).symm.trans (r6 j hj))⟩
theorem gS_inj {z : State} {w w2 : Bool} {H : Heap} {a b b2 : Nat} {T T2 : List Nat} (h : gS z w H a b T) (h2 : gS z w2 H a b2 T2) : b = b2 ∧ T = T2 := by
  obtain ⟨h1, hz1, hO, hB, hT⟩ := h
  obtain ⟨h3, hz3, hO2, hB2, hT2⟩ := h2
  have e := gO_fld hO hO2 (k := 0) (by decide)
  have e2 : b = b2 := Value.ref.inj e
  subst e2
  obtain ⟨e3, e4⟩ := gA_len hB hB2 hT.1 hT2.1
  refine ⟨rfl, getD_ext e3 fun i hi => ?_⟩
  have e5 := Value.int.inj (e4 i hi)
  exact (nI_eq (Nat.lt_trans (tx_at hT i) (by decide)) (Nat.lt_trans (tx_at hT2 i) (by decide))).mp e5
/-- c stands at r, and not ahead of it from p on; or nowhere from p on -/
def isIx (T : List Nat) (c p : Nat) (r : Int32) : Prop := (∃ i, r = nI i ∧ p ≤ i ∧ i < T.length ∧ T.getD i 0 = c ∧ ∀ j, p ≤ j → j < i → T.getD j 0 ≠ c) ∨ (r = -1 ∧ ∀ j, p ≤ j → j < T.length → T.getD j 0 ≠ c)
set_option maxHeartbeats 1000000 in
theorem m_equalsL (l : Launch) (z : State) (H0 : Heap) (b : Nat) (b2 : Nat) (w w2 : Bool) (T T2 : List Nat) (hB : gI z w .byte H0 b T.length (bof T)) (hB2 : gI z w2 .byte H0 b2 T2.length (bof T2)) (hT : tx T) (hT2 : tx T2) : Met l yJ15_equals (ws_ yJ15_equals cJ15_equals 3 (some .boolean)) { frames := 0, cells := 0, slots := 0, locals := 0 } (gPc z H0 [.ref b, .ref b2]) (gPi H0 (fun r => r = gb (decide (T = T2)))) 0 0 gno := by
  refine g_start (by decide +kernel) (Nat.le_of_ble_eq_true rfl) ?_
  intro p e s m below meth c ls hx hb hr hlocks hml hown hname hts hwm hl
  have hown : s.vm.findClass "java/lang/StringLatin1" = some m.cls := hown
  have hal : z.vm.Alike s.vm := hwm.alike
  have hCF : CallFix p m c cJ15_equals 3 s [.ref b, .ref b2].toArray lw_all "java/lang/StringLatin1" := ⟨hx, hb, hml, hown, hts⟩
  have hl : lv_has ls 3 [(0, .ref b), (1, .ref b2)] := hl
  have hT1 := hT.1
  have hT21 := hT2.1
  refine lv_aload_n hx hb dJ15_equals_0 rfl (lv_at hl 0 rfl) ?_
  refine gw_len hx hb hal hB dJ15_equals_1 ?_
  refine lv_aload_n hx hb dJ15_equals_2 rfl (lv_at hl 1 rfl) ?_
  refine gw_len hx hb hal hB2 dJ15_equals_3 ?_
  refine lv_icmp_ne (tgt := 34) hx hb dJ15_equals_4 (by decide) (fun c_4 => ?_) (fun c_4 => ?_)
  · skip
    have c_4 := mt (ai_eq (a := T.length) (b := T2.length) (rfl) (rfl) (by omega) (by omega)).mpr c_4
    refine lv_iconst (v := 0) hx hb dJ15_equals_34 (by decide) ?_
    refine g_zretP hx hb hr hlocks (rfl) ?_ dJ15_equals_35
    rw [decide_eq_false (fun q => c_4 (by rw [q]))]
    rfl
  · skip
    have c_4 := (ai_eq (a := T.length) (b := T2.length) (rfl) (rfl) (by omega) (by omega)).mp c_4
    refine lv_iconst (v := 0) hx hb dJ15_equals_7 (by decide) ?_
    refine lv_istore_n hx hb dJ15_equals_8 rfl hl (by decide) rfl (fun ls hl => ?_)
    have hl : lv_has ls 3 [(2, .int 0), (0, .ref b), (1, .ref b2)] := hl
    have loop : ∀ (n_ : Nat) (i : Nat), (i ≤ T.length) → (∀ j, j < i → T.getD j 0 = T2.getD j 0) → (T.length - i) < n_ → ∀ (ls : Array Slot), lv_has ls 3 [(2, .int (nI i)), (0, .ref b), (1, .ref b2)] → W p l e { frames := 0, cells := 0, slots := 0, locals := 0 } s m [.ref b, .ref b2].toArray below meth c H0 [] 0 0 (MQ below (gPi H0 (fun r => r = gb (decide (T = T2)))) [.ref b, .ref b2].toArray s 0 0 (gno)) (F0 m 9 ls []) := by
      intro n_
      induction n_ with
      | zero => intro i hi hq hm_; exact absurd hm_ (Nat.not_lt_zero _)
      | succ n_ ih_loop =>
        intro i hi hq hm_ ls hl
        refine lv_iload_n hx hb dJ15_equals_9 rfl (lv_at hl 0 rfl) ?_
        refine lv_aload_n hx hb dJ15_equals_10 rfl (lv_at hl 1 rfl) ?_
        refine gw_len hx hb hal hB dJ15_equals_11 ?_
        refine lv_icmp_ge (tgt := 32) hx hb dJ15_equals_12 (by decide) (fun c_12 => ?_) (fun c_12 => ?_)
        · skip
          have c_12 := (ai_le (a := T.length) (b := i) (rfl) (rfl) (by omega) (by omega)).mp c_12
          refine lv_iconst (v := 1) hx hb dJ15_equals_32 (by decide) ?_
          refine g_zretP hx hb hr hlocks (rfl) ?_ dJ15_equals_33
          rw [decide_eq_true (getD_ext (by omega) fun j hj => hq j (by omega))]
          rfl
        · skip
          have c_12 := mt (ai_le (a := T.length) (b := i) (rfl) (rfl) (by omega) (by omega)).mpr c_12
          have q1 := tx_at hT i
          have q2 := tx_at hT2 i
          refine lv_aload_n hx hb dJ15_equals_15 rfl (lv_at hl 1 rfl) ?_
          refine lv_iload_n hx hb dJ15_equals_16 rfl (lv_at hl 0 rfl) ?_
          refine gw_bald hx hb hal hB i (rfl) (by omega) (by omega) dJ15_equals_17 ?_
          refine g_topi (v := (nI (T.getD i 0))) rfl ?_
          refine lv_aload_n hx hb dJ15_equals_18 rfl (lv_at hl 2 rfl) ?_
          refine lv_iload_n hx hb dJ15_equals_19 rfl (lv_at hl 0 rfl) ?_
          refine gw_bald hx hb hal hB2 i (rfl) (by omega) (by omega) dJ15_equals_20 ?_
          refine g_topi (v := (nI (T2.getD i 0))) rfl ?_
          refine lv_icmp_eq (tgt := 26) hx hb dJ15_equals_21 (by decide) (fun c_21 => ?_) (fun c_21 => ?_)
          · skip
            have c_21 := (ai_eq (a := (T.getD i 0)) (b := (T2.getD i 0)) (rfl) (rfl) (by omega) (by omega)).mp c_21
            refine lv_iinc (k := 0) (v := (nI (i + 1))) hx hb dJ15_equals_26 hl rfl (ai_add (rfl) (show Int32.ofInt 1 = nI 1 by decide)) (by decide) rfl (fun ls hl => ?_)
            have hl : lv_has ls 3 [(2, .int (nI (i + 1))), (0, .ref b), (1, .ref b2)] := hl
            refine lv_goto (tgt := 9) hx hb dJ15_equals_29 (by decide) ?_
            exact ih_loop (i + 1) (by omega) (fun j hj => by rcases Nat.lt_or_ge j i with q | q; exact hq j q; rw [show j = i by omega]; exact c_21) (by omega) ls (lv_sub hl [0, 1, 2] rfl)
          · skip
            have c_21 := mt (ai_eq (a := (T.getD i 0)) (b := (T2.getD i 0)) (rfl) (rfl) (by omega) (by omega)).mpr c_21
            refine lv_iconst (v := 0) hx hb dJ15_equals_24 (by decide) ?_
            refine g_zretP hx hb hr hlocks (rfl) ?_ dJ15_equals_25
            rw [decide_eq_false (fun q => c_21 (by rw [q]))]
            rfl
    exact loop _ 0 (Nat.zero_le _) (fun j hj => by omega) (Nat.lt_succ_self _) ls (lv_sub hl [0, 1, 2] rfl)
set_option maxHeartbeats 1000000 in
theorem m_equals (l : Launch) (z : State) (H0 : Heap) (a : Nat) (x : Nat) (w w2 : Bool) (b b2 : Nat) (T T2 : List Nat) {A : Nat → Prop} (k : Nat → Nat) (fv : Nat → Value) (hstr : gS z w H0 a b T) (hstr2 : gS z w2 H0 x b2 T2) (hs : sS z k fv A H0) : Met l yJ5_equals (ws_ yJ5_equals cJ5_equals 3 (some .boolean)) { frames := 1, cells := 0, slots := 0, locals := 22 } (gPc z H0 [.ref a, .ref x]) (gPi H0 (fun r => r = gb (decide (T = T2)))) 0 0 gno := by
  refine g_start (by decide +kernel) (Nat.le_of_ble_eq_true rfl) ?_
  intro p e s m below meth c ls hx hb hr hlocks hml hown hname hts hwm hl
  have hown : s.vm.findClass "java/lang/String" = some m.cls := hown
  have hal : z.vm.Alike s.vm := hwm.alike
  have hCF : CallFix p m c cJ5_equals 3 s [.ref a, .ref x].toArray lw_all "java/lang/String" := ⟨hx, hb, hml, hown, hts⟩
  have hl : lv_has ls 3 [(0, .ref a), (1, .ref x)] := hl
  obtain ⟨h, hzz, hO, hB, hT⟩ := hstr
  obtain ⟨h2, hzz2, hO2, hB2, hT2⟩ := hstr2
  refine lv_aload_n hx hb dJ5_equals_0 rfl (lv_at hl 0 rfl) ?_
  refine lv_aload_n hx hb dJ5_equals_1 rfl (lv_at hl 1 rfl) ?_
  refine lv_acmp_ne (rx := some a) (ry := some x) (tgt := 7) hx hb dJ5_equals_2 (by decide) (fun c_2 => ?_) (fun c_2 => ?_)
  · skip
    have c_2 : ¬ a = x := fun q => c_2 (congrArg some q)
    refine lv_aload_n hx hb dJ5_equals_7 rfl (lv_at hl 1 rfl) ?_
    refine va_instS hx hb hown (hts _ q1548) (w_classAt hts q166).choose_spec (hO2.recv hal) dJ5_equals_8 ?_
    refine lv_if_eq (tgt := 54) hx hb dJ5_equals_11 (by decide) (fun c_11 => absurd c_11 (by decide)) (fun c_11 => ?_)
    refine lv_aload_n hx hb dJ5_equals_14 rfl (lv_at hl 1 rfl) ?_
    refine va_castS hx hb hown (hts _ q1548) (w_classAt hts q166).choose_spec (hO2.recv hal) dJ5_equals_15 ?_
    refine lv_astore_n hx hb dJ5_equals_18 rfl hl (by decide) rfl (fun ls hl => ?_)
    have hl : lv_has ls 3 [(2, .ref x), (0, .ref a), (1, .ref x)] := hl
    refine gw_getsP hx hb hal hs.1 hown (hts _ q226) (fun _ h9 => h9) dJ5_equals_19 ?_
    refine lv_if_eq (tgt := 36) hx hb dJ5_equals_22 (by decide) (fun c_22 => absurd c_22 (by decide)) (fun c_22 => ?_)
    refine lv_aload_n hx hb dJ5_equals_25 rfl (lv_at hl 1 rfl) ?_
    refine gw_get (C := RJ5) (T := TJ5) (N := 4) (v := .int 0) hx hb hts in_J5 hown hal hO 1 (by decide) (hts _ q524) (fun _ h9 => h9) rfl dJ5_equals_26 ?_
    refine lv_aload_n hx hb dJ5_equals_29 rfl (lv_at hl 0 rfl) ?_
    refine gw_get (C := RJ5) (T := TJ5) (N := 4) (v := .int 0) hx hb hts in_J5 hown hal hO2 1 (by decide) (hts _ q524) (fun _ h9 => h9) rfl dJ5_equals_30 ?_
    refine lv_icmp_ne (tgt := 54) hx hb dJ5_equals_33 (by decide) (fun c_33 => absurd (rfl) c_33) (fun c_33 => ?_)
    refine lv_aload_n hx hb dJ5_equals_36 rfl (lv_at hl 1 rfl) ?_
    refine gw_get (C := RJ5) (T := TJ5) (N := 4) (v := .ref b) hx hb hts in_J5 hown hal hO 0 (by decide) (hts _ q523) (fun _ h9 => h9) rfl dJ5_equals_37 ?_
    refine lv_aload_n hx hb dJ5_equals_40 rfl (lv_at hl 0 rfl) ?_
    refine gw_get (C := RJ5) (T := TJ5) (N := 4) (v := .ref b2) hx hb hts in_J5 hown hal hO2 0 (by decide) (hts _ q523) (fun _ h9 => h9) rfl dJ5_equals_41 ?_
    refine gcS2_iP hCF hwm hl.1 (m_equalsL l z H0 b b2 w w2 T T2 hB hB2 hT hT2 ) (lw_S q1948 q1949 q76 q1950) yd_J15_equals ⟨Nat.le_of_ble_eq_true rfl, Nat.le_of_ble_eq_true rfl⟩ ⟨Nat.le_of_ble_eq_true rfl, Nat.le_of_ble_eq_true rfl⟩ (Nat.le_of_ble_eq_true rfl) dJ5_equals_44 (fun r_1 hp => ?_)
    subst hp
    refine lv_if_eq (tgt := 54) hx hb dJ5_equals_47 (by decide) (fun c_47 => ?_) (fun c_47 => ?_)
    · skip
      have c_47 := gb_0.mp c_47
      refine lv_iconst (v := 0) hx hb dJ5_equals_54 (by decide) ?_
      refine g_zretP hx hb hr hlocks (rfl) ?_ dJ5_equals_55
      rw [c_47]
      rfl
    · skip
      have c_47 := gb_n0 c_47
      refine lv_iconst (v := 1) hx hb dJ5_equals_50 (by decide) ?_
      refine lv_goto (tgt := 55) hx hb dJ5_equals_51 (by decide) ?_
      refine g_zretP hx hb hr hlocks (rfl) ?_ dJ5_equals_55
      rw [c_47]
      rfl
  · skip
    have c_2 : a = x := Option.some.inj c_2
    refine lv_iconst (v := 1) hx hb dJ5_equals_5 (by decide) ?_
    refine g_zretP hx hb hr hlocks (rfl) ?_ dJ5_equals_6
    rw [decide_eq_true (gS_inj (show gS z w H0 a b T from ⟨h, hzz, hO, hB, hT⟩) (show gS z w2 H0 a b2 T2 from c_2 ▸ ⟨h2, hzz2, hO2, hB2, hT2⟩)).2]
    rfl
set_option maxHeartbeats 1000000 in
theorem m_canEncI (l : Launch) (z : State) (H0 : Heap)  (ch : Nat) (hc : ch < 128) : Met l yJ15_canEncode (ws_ yJ15_canEncode cJ15_canEncode 1 (some .boolean)) { frames := 0, cells := 0, slots := 0, locals := 0 } (gPc z H0 [.int (nI ch)]) (gPi H0 (fun r => r = 1)) 0 0 gno := by
  refine g_start (by decide +kernel) (Nat.le_of_ble_eq_true rfl) ?_
  intro p e s m below meth c ls hx hb hr hlocks hml hown hname hts hwm hl
  have hown : s.vm.findClass "java/lang/StringLatin1" = some m.cls := hown
  have hal : z.vm.Alike s.vm := hwm.alike
  have hCF : CallFix p m c cJ15_canEncode 1 s [.int (nI ch)].toArray lw_all "java/lang/StringLatin1" := ⟨hx, hb, hml, hown, hts⟩
  have hl : lv_has ls 1 [(0, .int (nI ch))] := hl
  refine lv_iload_n hx hb dJ15_canEncode_0 rfl (lv_at hl 0 rfl) ?_
  refine lv_if_lt (tgt := 15) hx hb dJ15_canEncode_1 (by decide) (fun c_1 => False.elim (by
    have c_1 := (ai_lt (a := ch) (b := 0) (rfl) (rfl) (by omega) (by omega)).mp c_1
    omega)) (fun c_1 => ?_)
  have c_1 := mt (ai_lt (a := ch) (b := 0) (rfl) (rfl) (by omega) (by omega)).mpr c_1
  refine lv_iload_n hx hb dJ15_canEncode_4 rfl (lv_at hl 0 rfl) ?_
  refine lv_sipush (v := 255) hx hb dJ15_canEncode_5 (by decide) ?_
  refine lv_icmp_gt (tgt := 15) hx hb dJ15_canEncode_8 (by decide) (fun c_8 => False.elim (by
    have c_8 := (ai_lt (a := 255) (b := ch) (rfl) (rfl) (by omega) (by omega)).mp c_8
    omega)) (fun c_8 => ?_)
  have c_8 := mt (ai_lt (a := 255) (b := ch) (rfl) (rfl) (by omega) (by omega)).mpr c_8
  refine lv_iconst (v := 1) hx hb dJ15_canEncode_11 (by decide) ?_
  refine lv_goto (tgt := 16) hx hb dJ15_canEncode_12 (by decide) ?_
  refine g_zretP hx hb hr hlocks (rfl) ?_ dJ15_canEncode_16
  rfl
set_option maxHeartbeats 1000000 in
theorem m_canEncC (l : Launch) (z : State) (H0 : Heap)  (ch : Nat) (hc : ch < 128) : Met l yJ15_canEncode_2 (ws_ yJ15_canEncode_2 cJ15_canEncode_2 1 (some .boolean)) { frames := 0, cells := 0, slots := 0, locals := 0 } (gPc z H0 [.int (nI ch)]) (gPi H0 (fun r => r = 1)) 0 0 gno := by
  refine g_start (by decide +kernel) (Nat.le_of_ble_eq_true rfl) ?_
  intro p e s m below meth c ls hx hb hr hlocks hml hown hname hts hwm hl
  have hown : s.vm.findClass "java/lang/StringLatin1" = some m.cls := hown
  have hal : z.vm.Alike s.vm := hwm.alike
  have hCF : CallFix p m c cJ15_canEncode_2 1 s [.int (nI ch)].toArray lw_all "java/lang/StringLatin1" := ⟨hx, hb, hml, hown, hts⟩
  have hl : lv_has ls 1 [(0, .int (nI ch))] := hl
  refine lv_iload_n hx hb dJ15_canEncode_2_0 rfl (lv_at hl 0 rfl) ?_
  refine lv_sipush (v := 255) hx hb dJ15_canEncode_2_1 (by decide) ?_
  refine lv_icmp_gt (tgt := 11) hx hb dJ15_canEncode_2_4 (by decide) (fun c_4 => False.elim (by
    have c_4 := (ai_lt (a := 255) (b := ch) (rfl) (rfl) (by omega) (by omega)).mp c_4
    omega)) (fun c_4 => ?_)
  have c_4 := mt (ai_lt (a := 255) (b := ch) (rfl) (rfl) (by omega) (by omega)).mpr c_4
  refine lv_iconst (v := 1) hx hb dJ15_canEncode_2_7 (by decide) ?_
  refine lv_goto (tgt := 12) hx hb dJ15_canEncode_2_8 (by decide) ?_
  refine g_zretP hx hb hr hlocks (rfl) ?_ dJ15_canEncode_2_12
  rfl
set_option maxHeartbeats 1000000 in
theorem m_indexOfChar (l : Launch) (z : State) (H0 : Heap) (b : Nat) (ch p0 : Nat) (w : Bool) (T : List Nat) (hc : ch < 128) (hp0 : p0 ≤ T.length) (hB : gI z w .byte H0 b T.length (bof T)) (hT : tx T) : Met l yJ15_indexOfChar (ws_ yJ15_indexOfChar cJ15_indexOfChar 6 (some .int)) { frames := 0, cells := 0, slots := 0, locals := 0 } (gPc z H0 [.ref b, .int (nI ch), .int (nI p0), .int (nI T.length)]) (gPi H0 (fun r => isIx T ch p0 r)) 0 0 gno := by
  refine g_start (by decide +kernel) (Nat.le_of_ble_eq_true rfl) ?_
  intro p e s m below meth c ls hx hb hr hlocks hml hown hname hts hwm hl
  have hown : s.vm.findClass "java/lang/StringLatin1" = some m.cls := hown
  have hal : z.vm.Alike s.vm := hwm.alike
  have hCF : CallFix p m c cJ15_indexOfChar 6 s [.ref b, .int (nI ch), .int (nI p0), .int (nI T.length)].toArray lw_all "java/lang/StringLatin1" := ⟨hx, hb, hml, hown, hts⟩
  have hl : lv_has ls 6 [(0, .ref b), (1, .int (nI ch)), (2, .int (nI p0)), (3, .int (nI T.length))] := hl
  have hT1 := hT.1
  refine lv_iload_n hx hb dJ15_indexOfChar_0 rfl (lv_at hl 1 rfl) ?_
  refine lv_i2b hx hb dJ15_indexOfChar_1 rfl ?_
  refine g_topi (v := nI ch) (ai_i2b (rfl) (by omega)) ?_
  refine lv_istore hx hb dJ15_indexOfChar_2 hl (by decide) rfl (fun ls hl => ?_)
  have hl : lv_has ls 6 [(4, .int (nI ch)), (0, .ref b), (1, .int (nI ch)), (2, .int (nI p0)), (3, .int (nI T.length))] := hl
  refine lv_iload_n hx hb dJ15_indexOfChar_4 rfl (lv_at hl 3 rfl) ?_
  refine lv_istore hx hb dJ15_indexOfChar_5 hl (by decide) rfl (fun ls hl => ?_)
  have hl : lv_has ls 6 [(5, .int (nI p0)), (4, .int (nI ch)), (0, .ref b), (1, .int (nI ch)), (2, .int (nI p0)), (3, .int (nI T.length))] := hl
  have loop : ∀ (n_ : Nat) (i : Nat), (p0 ≤ i ∧ i ≤ T.length) → (∀ j, p0 ≤ j → j < i → T.getD j 0 ≠ ch) → (T.length - i) < n_ → ∀ (ls : Array Slot), lv_has ls 6 [(5, .int (nI i)), (4, .int (nI ch)), (0, .ref b), (1, .int (nI ch)), (2, .int (nI p0)), (3, .int (nI T.length))] → W p l e { frames := 0, cells := 0, slots := 0, locals := 0 } s m [.ref b, .int (nI ch), .int (nI p0), .int (nI T.length)].toArray below meth c H0 [] 0 0 (MQ below (gPi H0 (fun r => isIx T ch p0 r)) [.ref b, .int (nI ch), .int (nI p0), .int (nI T.length)].toArray s 0 0 (gno)) (F0 m 7 ls []) := by
    intro n_
    induction n_ with
    | zero => intro i hi hq hm_; exact absurd hm_ (Nat.not_lt_zero _)
    | succ n_ ih_loop =>
      intro i hi hq hm_ ls hl
      refine lv_iload hx hb dJ15_indexOfChar_7 (lv_at hl 0 rfl) ?_
      refine lv_iload_n hx hb dJ15_indexOfChar_9 rfl (lv_at hl 5 rfl) ?_
      refine lv_icmp_ge (tgt := 31) hx hb dJ15_indexOfChar_10 (by decide) (fun c_10 => ?_) (fun c_10 => ?_)
      · skip
        have c_10 := (ai_le (a := T.length) (b := i) (rfl) (rfl) (by omega) (by omega)).mp c_10
        refine lv_iconst (v := -1) hx hb dJ15_indexOfChar_31 (by decide) ?_
        refine g_iretP hx hb hr hlocks ?_ dJ15_indexOfChar_32
        exact Or.inr ⟨rfl, fun j h1 h2 => hq j h1 (by omega)⟩
      · skip
        have c_10 := mt (ai_le (a := T.length) (b := i) (rfl) (rfl) (by omega) (by omega)).mpr c_10
        have q1 := tx_at hT i
        refine lv_aload_n hx hb dJ15_indexOfChar_13 rfl (lv_at hl 2 rfl) ?_
        refine lv_iload hx hb dJ15_indexOfChar_14 (lv_at hl 0 rfl) ?_
        refine gw_bald hx hb hal hB i (rfl) (by omega) (by omega) dJ15_indexOfChar_16 ?_
        refine g_topi (v := (nI (T.getD i 0))) rfl ?_
        refine lv_iload hx hb dJ15_indexOfChar_17 (lv_at hl 1 rfl) ?_
        refine lv_icmp_ne (tgt := 25) hx hb dJ15_indexOfChar_19 (by decide) (fun c_19 => ?_) (fun c_19 => ?_)
        · skip
          have c_19 := mt (ai_eq (a := (T.getD i 0)) (b := ch) (rfl) (rfl) (by omega) (by omega)).mpr c_19
          refine lv_iinc (k := 0) (v := (nI (i + 1))) hx hb dJ15_indexOfChar_25 hl rfl (ai_add (rfl) (show Int32.ofInt 1 = nI 1 by decide)) (by decide) rfl (fun ls hl => ?_)
          have hl : lv_has ls 6 [(5, .int (nI (i + 1))), (4, .int (nI ch)), (0, .ref b), (1, .int (nI ch)), (2, .int (nI p0)), (3, .int (nI T.length))] := hl
          refine lv_goto (tgt := 7) hx hb dJ15_indexOfChar_28 (by decide) ?_
          exact ih_loop (i + 1) (by omega) (fun j h1 h2 => by rcases Nat.lt_or_ge j i with q | q; exact hq j h1 q; rw [show j = i by omega]; exact c_19) (by omega) ls (lv_sub hl [0, 1, 2, 3, 4, 5] rfl)
        · skip
          have c_19 := (ai_eq (a := (T.getD i 0)) (b := ch) (rfl) (rfl) (by omega) (by omega)).mp c_19
          refine lv_iload hx hb dJ15_indexOfChar_22 (lv_at hl 0 rfl) ?_
          refine g_iretP hx hb hr hlocks ?_ dJ15_indexOfChar_24
          exact Or.inl ⟨i, rfl, hi.1, by omega, c_19, hq⟩
  exact loop _ p0 (⟨Nat.le_refl _, hp0⟩) (fun j h1 h2 => by omega) (Nat.lt_succ_self _) ls (lv_sub hl [0, 1, 2, 3, 4, 5] rfl)
set_option maxHeartbeats 1000000 in
theorem m_indexOfL (l : Launch) (z : State) (H0 : Heap) (b : Nat) (ch p0 : Nat) (w : Bool) (T : List Nat) (hc : ch < 128) (hp0 : p0 ≤ T.length) (hB : gI z w .byte H0 b T.length (bof T)) (hT : tx T) : Met l yJ15_indexOf (ws_ yJ15_indexOf cJ15_indexOf 4 (some .int)) { frames := 1, cells := 0, slots := 0, locals := 25 } (gPc z H0 [.ref b, .int (nI ch), .int (nI p0), .int (nI T.length)]) (gPi H0 (fun r => isIx T ch p0 r)) 0 0 gno := by
  refine g_start (by decide +kernel) (Nat.le_of_ble_eq_true rfl) ?_
  intro p e s m below meth c ls hx hb hr hlocks hml hown hname hts hwm hl
  have hown : s.vm.findClass "java/lang/StringLatin1" = some m.cls := hown
  have hal : z.vm.Alike s.vm := hwm.alike
  have hCF : CallFix p m c cJ15_indexOf 4 s [.ref b, .int (nI ch), .int (nI p0), .int (nI T.length)].toArray lw_all "java/lang/StringLatin1" := ⟨hx, hb, hml, hown, hts⟩
  have hl : lv_has ls 4 [(0, .ref b), (1, .int (nI ch)), (2, .int (nI p0)), (3, .int (nI T.length))] := hl
  have hT1 := hT.1
  refine lv_iload_n hx hb dJ15_indexOf_0 rfl (lv_at hl 1 rfl) ?_
  refine gcS1_iP hCF hwm hl.1 (m_canEncI l z H0  ch hc ) (lw_S q577 q578 q76 q579) yd_J15_canEncode ⟨Nat.le_of_ble_eq_true rfl, Nat.le_of_ble_eq_true rfl⟩ ⟨Nat.le_of_ble_eq_true rfl, Nat.le_of_ble_eq_true rfl⟩ (Nat.le_of_ble_eq_true rfl) dJ15_indexOf_1 (fun r_1 hp => ?_)
  subst hp
  refine lv_if_ne (tgt := 9) hx hb dJ15_indexOf_4 (by decide) (fun c_4 => ?_) (fun c_4 => absurd c_4 (by decide))
  refine lv_iload_n hx hb dJ15_indexOf_9 rfl (lv_at hl 2 rfl) ?_
  refine lv_iconst (v := 0) hx hb dJ15_indexOf_10 (by decide) ?_
  refine gcS2_iP hCF hwm hl.1 (m_maxI l z H0 (nI p0) 0  ) (lw_S q580 q267 q72 q268) yd_J12_max ⟨Nat.le_of_ble_eq_true rfl, Nat.le_of_ble_eq_true rfl⟩ ⟨Nat.le_of_ble_eq_true rfl, Nat.le_of_ble_eq_true rfl⟩ (Nat.le_of_ble_eq_true rfl) dJ15_indexOf_11 (fun r_2 hp => ?_)
  subst hp
  refine g_topi (v := nI (max p0 0)) (ai_max (a := p0) (b := 0) (rfl) (rfl) (by omega) (by omega)) ?_
  refine g_topi (v := (nI p0)) (by rw [Nat.max_eq_left (Nat.zero_le _)]) ?_
  refine lv_istore_n hx hb dJ15_indexOf_14 rfl hl (by decide) rfl (fun ls hl => ?_)
  have hl : lv_has ls 4 [(2, .int (nI p0)), (0, .ref b), (1, .int (nI ch)), (3, .int (nI T.length))] := hl
  refine lv_iload_n hx hb dJ15_indexOf_15 rfl (lv_at hl 3 rfl) ?_
  refine lv_aload_n hx hb dJ15_indexOf_16 rfl (lv_at hl 1 rfl) ?_
  refine gw_len hx hb hal hB dJ15_indexOf_17 ?_
  refine gcS2_iP hCF hwm hl.1 (m_minI l z H0 (nI T.length) (nI T.length)  ) (lw_S q581 q284 q72 q285) yd_J12_min ⟨Nat.le_of_ble_eq_true rfl, Nat.le_of_ble_eq_true rfl⟩ ⟨Nat.le_of_ble_eq_true rfl, Nat.le_of_ble_eq_true rfl⟩ (Nat.le_of_ble_eq_true rfl) dJ15_indexOf_18 (fun r_3 hp => ?_)
  subst hp
  refine g_topi (v := nI (min T.length T.length)) (ai_min (a := T.length) (b := T.length) (rfl) (rfl) (by omega) (by omega)) ?_
  refine g_topi (v := (nI T.length)) (by rw [Nat.min_self]) ?_
  refine lv_istore_n hx hb dJ15_indexOf_21 rfl hl (by decide) rfl (fun ls hl => ?_)
  have hl : lv_has ls 4 [(3, .int (nI T.length)), (2, .int (nI p0)), (0, .ref b), (1, .int (nI ch))] := hl
  refine lv_iload_n hx hb dJ15_indexOf_22 rfl (lv_at hl 1 rfl) ?_
  refine lv_iload_n hx hb dJ15_indexOf_23 rfl (lv_at hl 0 rfl) ?_
  refine lv_icmp_lt (tgt := 29) hx hb dJ15_indexOf_24 (by decide) (fun c_24 => ?_) (fun c_24 => ?_)
  · skip
    have c_24 := (ai_lt (a := p0) (b := T.length) (rfl) (rfl) (by omega) (by omega)).mp c_24
    refine lv_aload_n hx hb dJ15_indexOf_29 rfl (lv_at hl 2 rfl) ?_
    refine lv_iload_n hx hb dJ15_indexOf_30 rfl (lv_at hl 3 rfl) ?_
    refine lv_iload_n hx hb dJ15_indexOf_31 rfl (lv_at hl 1 rfl) ?_
    refine lv_iload_n hx hb dJ15_indexOf_32 rfl (lv_at hl 0 rfl) ?_
    refine gcS4_iP hCF hwm hl.1 (m_indexOfChar l z H0 b ch p0 w T hc hp0 hB hT ) (lw_S q582 q583 q76 q584) yd_J15_indexOfChar ⟨Nat.le_of_ble_eq_true rfl, Nat.le_of_ble_eq_true rfl⟩ ⟨Nat.le_of_ble_eq_true rfl, Nat.le_of_ble_eq_true rfl⟩ (Nat.le_of_ble_eq_true rfl) dJ15_indexOf_33 (fun rr hp => ?_)
    have hN := hp
    refine g_iretP hx hb hr hlocks ?_ dJ15_indexOf_36
    exact hN
  · skip
    have c_24 := mt (ai_lt (a := p0) (b := T.length) (rfl) (rfl) (by omega) (by omega)).mpr c_24
    refine lv_iconst (v := -1) hx hb dJ15_indexOf_27 (by decide) ?_
    refine g_iretP hx hb hr hlocks ?_ dJ15_indexOf_28
    exact Or.inr ⟨rfl, fun j h1 h2 => by omega⟩
set_option maxHeartbeats 1000000 in
theorem m_indexOf2 (l : Launch) (z : State) (H0 : Heap) (a : Nat) (ch p0 : Nat) (w : Bool) (b : Nat) (T : List Nat) {A : Nat → Prop} (k : Nat → Nat) (fv : Nat → Value) (hc : ch < 128) (hp0 : p0 ≤ T.length) (hstr : gS z w H0 a b T) (hs : sS z k fv A H0) : Met l yJ5_indexOf_2 (ws_ yJ5_indexOf_2 cJ5_indexOf_2 3 (some .int)) { frames := 2, cells := 0, slots := 0, locals := 48 } (gPc z H0 [.ref a, .int (nI ch), .int (nI p0)]) (gPi H0 (fun r => isIx T ch p0 r)) 0 0 gno := by
  refine g_start (by decide +kernel) (Nat.le_of_ble_eq_true rfl) ?_
  intro p e s m below meth c ls hx hb hr hlocks hml hown hname hts hwm hl
  have hown : s.vm.findClass "java/lang/String" = some m.cls := hown
  have hal : z.vm.Alike s.vm := hwm.alike
  have hCF : CallFix p m c cJ5_indexOf_2 3 s [.ref a, .int (nI ch), .int (nI p0)].toArray lw_all "java/lang/String" := ⟨hx, hb, hml, hown, hts⟩
  have hl : lv_has ls 3 [(0, .ref a), (1, .int (nI ch)), (2, .int (nI p0))] := hl
  obtain ⟨h, hzz, hO, hB, hT⟩ := hstr
  refine lv_aload_n hx hb dJ5_indexOf_2_0 rfl (lv_at hl 0 rfl) ?_
  refine gcV0_iP hCF hwm hl.1 (m_isLatin1 l z H0 a w b T k fv ⟨h, hzz, hO, hB, hT⟩ hs ) (lw_V q542 q543 q544 q64 q545) ydv_J5_isLatin1 (hO.recv hal) ⟨Nat.le_of_ble_eq_true rfl, Nat.le_of_ble_eq_true rfl⟩ ⟨Nat.le_of_ble_eq_true rfl, Nat.le_of_ble_eq_true rfl⟩ (Nat.le_of_ble_eq_true rfl) dJ5_indexOf_2_1 (fun r_1 hp => ?_)
  subst hp
  refine lv_if_eq (tgt := 23) hx hb dJ5_indexOf_2_4 (by decide) (fun c_4 => absurd c_4 (by decide)) (fun c_4 => ?_)
  refine lv_aload_n hx hb dJ5_indexOf_2_7 rfl (lv_at hl 0 rfl) ?_
  refine gw_get (C := RJ5) (T := TJ5) (N := 4) (v := .ref b) hx hb hts in_J5 hown hal hO 0 (by decide) (hts _ q523) (fun _ h9 => h9) rfl dJ5_indexOf_2_8 ?_
  refine lv_iload_n hx hb dJ5_indexOf_2_11 rfl (lv_at hl 1 rfl) ?_
  refine lv_iload_n hx hb dJ5_indexOf_2_12 rfl (lv_at hl 2 rfl) ?_
  refine lv_aload_n hx hb dJ5_indexOf_2_13 rfl (lv_at hl 0 rfl) ?_
  refine gcV0_iP hCF hwm hl.1 (m_length l z H0 a w b T k fv ⟨h, hzz, hO, hB, hT⟩ hs ) (lw_V q573 q219 q220 q64 q221) ydv_J5_length (hO.recv hal) ⟨Nat.le_of_ble_eq_true rfl, Nat.le_of_ble_eq_true rfl⟩ ⟨Nat.le_of_ble_eq_true rfl, Nat.le_of_ble_eq_true rfl⟩ (Nat.le_of_ble_eq_true rfl) dJ5_indexOf_2_14 (fun r_2 hp => ?_)
  subst hp
  refine gcS4_iP hCF hwm hl.1 (m_indexOfL l z H0 b ch p0 w T hc hp0 hB hT ) (lw_S q574 q575 q76 q576) yd_J15_indexOf ⟨Nat.le_of_ble_eq_true rfl, Nat.le_of_ble_eq_true rfl⟩ ⟨Nat.le_of_ble_eq_true rfl, Nat.le_of_ble_eq_true rfl⟩ (Nat.le_of_ble_eq_true rfl) dJ5_indexOf_2_17 (fun rr hp => ?_)
  have hN := hp
  refine lv_goto (tgt := 36) hx hb dJ5_indexOf_2_20 (by decide) ?_
  refine g_iretP hx hb hr hlocks ?_ dJ5_indexOf_2_36
  exact hN
set_option maxHeartbeats 1000000 in
theorem m_indexOf (l : Launch) (z : State) (H0 : Heap) (a : Nat) (ch : Nat) (w : Bool) (b : Nat) (T : List Nat) {A : Nat → Prop} (k : Nat → Nat) (fv : Nat → Value) (hc : ch < 128) (hstr : gS z w H0 a b T) (hs : sS z k fv A H0) : Met l yJ5_indexOf (ws_ yJ5_indexOf cJ5_indexOf 2 (some .int)) { frames := 3, cells := 0, slots := 0, locals := 70 } (gPc z H0 [.ref a, .int (nI ch)]) (gPi H0 (fun r => isIx T ch 0 r)) 0 0 gno := by
  refine g_start (by decide +kernel) (Nat.le_of_ble_eq_true rfl) ?_
  intro p e s m below meth c ls hx hb hr hlocks hml hown hname hts hwm hl
  have hown : s.vm.findClass "java/lang/String" = some m.cls := hown
  have hal : z.vm.Alike s.vm := hwm.alike
  have hCF : CallFix p m c cJ5_indexOf 2 s [.ref a, .int (nI ch)].toArray lw_all "java/lang/String" := ⟨hx, hb, hml, hown, hts⟩
  have hl : lv_has ls 2 [(0, .ref a), (1, .int (nI ch))] := hl
  obtain ⟨h, hzz, hO, hB, hT⟩ := hstr
  refine lv_aload_n hx hb dJ5_indexOf_0 rfl (lv_at hl 0 rfl) ?_
  refine lv_iload_n hx hb dJ5_indexOf_1 rfl (lv_at hl 1 rfl) ?_
  refine lv_iconst (v := 0) hx hb dJ5_indexOf_2 (by decide) ?_
  refine gcV2_iP hCF hwm hl.1 (m_indexOf2 l z H0 a ch 0 w b T k fv hc (Nat.zero_le _) ⟨h, hzz, hO, hB, hT⟩ hs ) (lw_V q569 q570 q571 q64 q572) ydv_J5_indexOf_2 (hO.recv hal) ⟨Nat.le_of_ble_eq_true rfl, Nat.le_of_ble_eq_true rfl⟩ ⟨Nat.le_of_ble_eq_true rfl, Nat.le_of_ble_eq_true rfl⟩ (Nat.le_of_ble_eq_true rfl) dJ5_indexOf_3 (fun rr hp => ?_)
  have hN := hp
  refine g_iretP hx hb hr hlocks ?_ dJ5_indexOf_6
  exact hN
set_option maxHeartbeats 1000000 in
theorem m_mismatch (l : Launch) (z : State) (H0 : Heap) (b : Nat) (b2 : Nat) (p0 : Nat) (w w2 : Bool) (T T2 : List Nat) (h7 : T2.length ≤ 7) (hp0 : p0 + T2.length ≤ T.length) (hB : gI z w .byte H0 b T.length (bof T)) (hB2 : gI z w2 .byte H0 b2 T2.length (bof T2)) (hT : tx T) (hT2 : tx T2) : Met l yJ11_mismatch (ws_ yJ11_mismatch cJ11_mismatch 8 (some .int)) { frames := 0, cells := 0, slots := 0, locals := 0 } (gPc z H0 [.ref b, .int (nI p0), .ref b2, .int 0, .int (nI T2.length)]) (gPi H0 (fun r => (r = -1 ∧ sub T p0 T2.length = T2) ∨ (¬ r < 0 ∧ ¬ sub T p0 T2.length = T2))) 0 0 gno := by
  refine g_start (by decide +kernel) (Nat.le_of_ble_eq_true rfl) ?_
  intro p e s m below meth c ls hx hb hr hlocks hml hown hname hts hwm hl
  have hown : s.vm.findClass "jdk/internal/util/ArraysSupport" = some m.cls := hown
  have hal : z.vm.Alike s.vm := hwm.alike
  have hCF : CallFix p m c cJ11_mismatch 8 s [.ref b, .int (nI p0), .ref b2, .int 0, .int (nI T2.length)].toArray lw_all "jdk/internal/util/ArraysSupport" := ⟨hx, hb, hml, hown, hts⟩
  have hl : lv_has ls 8 [(0, .ref b), (1, .int (nI p0)), (2, .ref b2), (3, .int 0), (4, .int (nI T2.length))] := hl
  have hT1 := hT.1
  have hT21 := hT2.1
  refine lv_iconst (v := 0) hx hb dJ11_mismatch_0 (by decide) ?_
  refine lv_istore hx hb dJ11_mismatch_1 hl (by decide) rfl (fun ls hl => ?_)
  have hl : lv_has ls 8 [(5, .int 0), (0, .ref b), (1, .int (nI p0)), (2, .ref b2), (3, .int 0), (4, .int (nI T2.length))] := hl
  refine lv_iload hx hb dJ11_mismatch_3 (lv_at hl 5 rfl) ?_
  refine lv_bipush (v := 7) hx hb dJ11_mismatch_5 (by decide) ?_
  refine lv_icmp_le (tgt := 70) hx hb dJ11_mismatch_7 (by decide) (fun c_7 => ?_) (fun c_7 => False.elim (by
    have c_7 := mt (ai_le (a := T2.length) (b := 7) (rfl) (rfl) (by omega) (by omega)).mpr c_7
    omega))
  have c_7 := (ai_le (a := T2.length) (b := 7) (rfl) (rfl) (by omega) (by omega)).mp c_7
  have loop : ∀ (n_ : Nat) (i : Nat), (i ≤ T2.length) → (∀ j, j < i → T.getD (p0 + j) 0 = T2.getD j 0) → (T2.length - i) < n_ → ∀ (ls : Array Slot), lv_has ls 8 [(5, .int (nI i)), (0, .ref b), (1, .int (nI p0)), (2, .ref b2), (3, .int 0), (4, .int (nI T2.length))] → W p l e { frames := 0, cells := 0, slots := 0, locals := 0 } s m [.ref b, .int (nI p0), .ref b2, .int 0, .int (nI T2.length)].toArray below meth c H0 [] 0 0 (MQ below (gPi H0 (fun r => (r = -1 ∧ sub T p0 T2.length = T2) ∨ (¬ r < 0 ∧ ¬ sub T p0 T2.length = T2))) [.ref b, .int (nI p0), .ref b2, .int 0, .int (nI T2.length)].toArray s 0 0 (gno)) (F0 m 70 ls []) := by
    intro n_
    induction n_ with
    | zero => intro i hi hq hm_; exact absurd hm_ (Nat.not_lt_zero _)
    | succ n_ ih_loop =>
      intro i hi hq hm_ ls hl
      refine lv_iload hx hb dJ11_mismatch_70 (lv_at hl 0 rfl) ?_
      refine lv_iload hx hb dJ11_mismatch_72 (lv_at hl 5 rfl) ?_
      refine lv_icmp_ge (tgt := 101) hx hb dJ11_mismatch_74 (by decide) (fun c_74 => ?_) (fun c_74 => ?_)
      · skip
        have c_74 := (ai_le (a := T2.length) (b := i) (rfl) (rfl) (by omega) (by omega)).mp c_74
        refine lv_iconst (v := -1) hx hb dJ11_mismatch_101 (by decide) ?_
        refine g_iretP hx hb hr hlocks ?_ dJ11_mismatch_102
        exact Or.inl ⟨rfl, getD_ext (sub_len hp0) fun j hj => by rw [sub_len hp0] at hj; rw [sub_at hj]; exact hq j (by omega)⟩
      · skip
        have c_74 := mt (ai_le (a := T2.length) (b := i) (rfl) (rfl) (by omega) (by omega)).mpr c_74
        have q1 := tx_at hT (p0 + i)
        have q2 := tx_at hT2 i
        refine lv_aload_n hx hb dJ11_mismatch_77 rfl (lv_at hl 1 rfl) ?_
        refine lv_iload_n hx hb dJ11_mismatch_78 rfl (lv_at hl 2 rfl) ?_
        refine lv_iload hx hb dJ11_mismatch_79 (lv_at hl 0 rfl) ?_
        refine lv_iadd hx hb dJ11_mismatch_81 ?_
        refine g_topi (v := nI (p0 + i)) (ai_add (a := p0) (b := i) (rfl) (rfl)) ?_
        refine gw_bald hx hb hal hB (p0 + i) (rfl) (by omega) (by omega) dJ11_mismatch_82 ?_
        refine g_topi (v := (nI (T.getD (p0 + i) 0))) rfl ?_
        refine lv_aload_n hx hb dJ11_mismatch_83 rfl (lv_at hl 3 rfl) ?_
        refine lv_iload_n hx hb dJ11_mismatch_84 rfl (lv_at hl 4 rfl) ?_
        refine lv_iload hx hb dJ11_mismatch_85 (lv_at hl 0 rfl) ?_
        refine lv_iadd hx hb dJ11_mismatch_87 ?_
        refine g_topi (v := nI i) (ai_add0l (b := i) (rfl) (rfl)) ?_
        refine gw_bald hx hb hal hB2 i (rfl) (by omega) (by omega) dJ11_mismatch_88 ?_
        refine g_topi (v := (nI (T2.getD i 0))) rfl ?_
        refine lv_icmp_eq (tgt := 95) hx hb dJ11_mismatch_89 (by decide) (fun c_89 => ?_) (fun c_89 => ?_)
        · skip
          have c_89 := (ai_eq (a := (T.getD (p0 + i) 0)) (b := (T2.getD i 0)) (rfl) (rfl) (by omega) (by omega)).mp c_89
          refine lv_iinc (k := 0) (v := (nI (i + 1))) hx hb dJ11_mismatch_95 hl rfl (ai_add (rfl) (show Int32.ofInt 1 = nI 1 by decide)) (by decide) rfl (fun ls hl => ?_)
          have hl : lv_has ls 8 [(5, .int (nI (i + 1))), (0, .ref b), (1, .int (nI p0)), (2, .ref b2), (3, .int 0), (4, .int (nI T2.length))] := hl
          refine lv_goto (tgt := 70) hx hb dJ11_mismatch_98 (by decide) ?_
          exact ih_loop (i + 1) (by omega) (fun j hj => by rcases Nat.lt_or_ge j i with q | q; exact hq j q; rw [show j = i by omega]; exact c_89) (by omega) ls (lv_sub hl [0, 1, 2, 3, 4, 5] rfl)
        · skip
          have c_89 := mt (ai_eq (a := (T.getD (p0 + i) 0)) (b := (T2.getD i 0)) (rfl) (rfl) (by omega) (by omega)).mpr c_89
          refine lv_iload hx hb dJ11_mismatch_92 (lv_at hl 0 rfl) ?_
          refine g_iretP hx hb hr hlocks ?_ dJ11_mismatch_94
          refine Or.inr ⟨nI_pos (by omega), fun q => c_89 ?_⟩
          rw [← sub_at (T := T) (u := p0) (j := T2.length) (by omega), q]
  exact loop _ 0 (Nat.zero_le _) (fun j hj => by omega) (Nat.lt_succ_self _) ls (lv_sub hl [0, 1, 2, 3, 4, 5] rfl)
set_option maxHeartbeats 1000000 in
theorem m_startsAt (l : Launch) (z : State) (H0 : Heap) (a : Nat) (x : Nat) (p0 : Nat) (w w2 : Bool) (b b2 : Nat) (T T2 : List Nat) {A : Nat → Prop} (k : Nat → Nat) (fv : Nat → Value) (h7 : T2.length ≤ 7) (hp0 : p0 + T2.length ≤ T.length) (hstr : gS z w H0 a b T) (hstr2 : gS z w2 H0 x b2 T2) (hs : sS z k fv A H0) : Met l yJ5_startsWith_2 (ws_ yJ5_startsWith_2 cJ5_startsWith_2 8 (some .boolean)) { frames := 2, cells := 0, slots := 0, locals := 40 } (gPc z H0 [.ref a, .ref x, .int (nI p0)]) (gPi H0 (fun r => r = gb (decide (sub T p0 T2.length = T2)))) 0 0 gno := by
  refine g_start (by decide +kernel) (Nat.le_of_ble_eq_true rfl) ?_
  intro p e s m below meth c ls hx hb hr hlocks hml hown hname hts hwm hl
  have hown : s.vm.findClass "java/lang/String" = some m.cls := hown
  have hal : z.vm.Alike s.vm := hwm.alike
  have hCF : CallFix p m c cJ5_startsWith_2 8 s [.ref a, .ref x, .int (nI p0)].toArray lw_all "java/lang/String" := ⟨hx, hb, hml, hown, hts⟩
  have hl : lv_has ls 8 [(0, .ref a), (1, .ref x), (2, .int (nI p0))] := hl
  obtain ⟨h, hzz, hO, hB, hT⟩ := hstr
  obtain ⟨h2, hzz2, hO2, hB2, hT2⟩ := hstr2
  have hT1 := hT.1
  have hT21 := hT2.1
  refine lv_iload_n hx hb dJ5_startsWith_2_0 rfl (lv_at hl 2 rfl) ?_
  refine lv_if_lt (tgt := 17) hx hb dJ5_startsWith_2_1 (by decide) (fun c_1 => False.elim (by
    have c_1 := (ai_lt (a := p0) (b := 0) (rfl) (rfl) (by omega) (by omega)).mp c_1
    omega)) (fun c_1 => ?_)
  have c_1 := mt (ai_lt (a := p0) (b := 0) (rfl) (rfl) (by omega) (by omega)).mpr c_1
  refine lv_iload_n hx hb dJ5_startsWith_2_4 rfl (lv_at hl 2 rfl) ?_
  refine lv_aload_n hx hb dJ5_startsWith_2_5 rfl (lv_at hl 0 rfl) ?_
  refine gcV0_iP hCF hwm hl.1 (m_length l z H0 a w b T k fv ⟨h, hzz, hO, hB, hT⟩ hs ) (lw_V q573 q219 q220 q64 q221) ydv_J5_length (hO.recv hal) ⟨Nat.le_of_ble_eq_true rfl, Nat.le_of_ble_eq_true rfl⟩ ⟨Nat.le_of_ble_eq_true rfl, Nat.le_of_ble_eq_true rfl⟩ (Nat.le_of_ble_eq_true rfl) dJ5_startsWith_2_6 (fun r_1 hp => ?_)
  subst hp
  refine lv_aload_n hx hb dJ5_startsWith_2_9 rfl (lv_at hl 1 rfl) ?_
  refine gcV0_iP hCF hwm hl.1 (m_length l z H0 x w2 b2 T2 k fv ⟨h2, hzz2, hO2, hB2, hT2⟩ hs ) (lw_V q573 q219 q220 q64 q221) ydv_J5_length (hO2.recv hal) ⟨Nat.le_of_ble_eq_true rfl, Nat.le_of_ble_eq_true rfl⟩ ⟨Nat.le_of_ble_eq_true rfl, Nat.le_of_ble_eq_true rfl⟩ (Nat.le_of_ble_eq_true rfl) dJ5_startsWith_2_10 (fun r_2 hp => ?_)
  subst hp
  refine lv_isub hx hb dJ5_startsWith_2_13 ?_
  refine g_topi (v := nI (T.length - T2.length)) (ai_sub (a := T.length) (b := T2.length) (rfl) (rfl) (by omega)) ?_
  refine lv_icmp_le (tgt := 19) hx hb dJ5_startsWith_2_14 (by decide) (fun c_14 => ?_) (fun c_14 => False.elim (by
    have c_14 := mt (ai_le (a := p0) (b := (T.length - T2.length)) (rfl) (rfl) (by omega) (by omega)).mpr c_14
    omega))
  have c_14 := (ai_le (a := p0) (b := (T.length - T2.length)) (rfl) (rfl) (by omega) (by omega)).mp c_14
  refine lv_aload_n hx hb dJ5_startsWith_2_19 rfl (lv_at hl 0 rfl) ?_
  refine gw_get (C := RJ5) (T := TJ5) (N := 4) (v := .ref b) hx hb hts in_J5 hown hal hO 0 (by decide) (hts _ q523) (fun _ h9 => h9) rfl dJ5_startsWith_2_20 ?_
  refine lv_astore_n hx hb dJ5_startsWith_2_23 rfl hl (by decide) rfl (fun ls hl => ?_)
  have hl : lv_has ls 8 [(3, .ref b), (0, .ref a), (1, .ref x), (2, .int (nI p0))] := hl
  refine lv_aload_n hx hb dJ5_startsWith_2_24 rfl (lv_at hl 2 rfl) ?_
  refine gw_get (C := RJ5) (T := TJ5) (N := 4) (v := .ref b2) hx hb hts in_J5 hown hal hO2 0 (by decide) (hts _ q523) (fun _ h9 => h9) rfl dJ5_startsWith_2_25 ?_
  refine lv_astore hx hb dJ5_startsWith_2_28 hl (by decide) rfl (fun ls hl => ?_)
  have hl : lv_has ls 8 [(4, .ref b2), (3, .ref b), (0, .ref a), (1, .ref x), (2, .int (nI p0))] := hl
  refine lv_iconst (v := 0) hx hb dJ5_startsWith_2_30 (by decide) ?_
  refine lv_istore hx hb dJ5_startsWith_2_31 hl (by decide) rfl (fun ls hl => ?_)
  have hl : lv_has ls 8 [(5, .int 0), (4, .ref b2), (3, .ref b), (0, .ref a), (1, .ref x), (2, .int (nI p0))] := hl
  refine lv_aload hx hb dJ5_startsWith_2_33 (lv_at hl 1 rfl) ?_
  refine gw_len hx hb hal hB2 dJ5_startsWith_2_35 ?_
  refine lv_istore hx hb dJ5_startsWith_2_36 hl (by decide) rfl (fun ls hl => ?_)
  have hl : lv_has ls 8 [(6, .int (nI T2.length)), (5, .int 0), (4, .ref b2), (3, .ref b), (0, .ref a), (1, .ref x), (2, .int (nI p0))] := hl
  refine lv_aload_n hx hb dJ5_startsWith_2_38 rfl (lv_at hl 4 rfl) ?_
  refine gcV0_iP hCF hwm hl.1 (m_coder l z H0 a w b T k fv ⟨h, hzz, hO, hB, hT⟩ hs ) (lw_V q222 q223 q224 q64 q225) ydv_J5_coder (hO.recv hal) ⟨Nat.le_of_ble_eq_true rfl, Nat.le_of_ble_eq_true rfl⟩ ⟨Nat.le_of_ble_eq_true rfl, Nat.le_of_ble_eq_true rfl⟩ (Nat.le_of_ble_eq_true rfl) dJ5_startsWith_2_39 (fun r_3 hp => ?_)
  subst hp
  refine lv_istore hx hb dJ5_startsWith_2_42 hl (by decide) rfl (fun ls hl => ?_)
  have hl : lv_has ls 8 [(7, .int 0), (6, .int (nI T2.length)), (5, .int 0), (4, .ref b2), (3, .ref b), (0, .ref a), (1, .ref x), (2, .int (nI p0))] := hl
  refine lv_iload hx hb dJ5_startsWith_2_44 (lv_at hl 0 rfl) ?_
  refine lv_aload_n hx hb dJ5_startsWith_2_46 rfl (lv_at hl 6 rfl) ?_
  refine gcV0_iP hCF hwm hl.1 (m_coder l z H0 x w2 b2 T2 k fv ⟨h2, hzz2, hO2, hB2, hT2⟩ hs ) (lw_V q222 q223 q224 q64 q225) ydv_J5_coder (hO2.recv hal) ⟨Nat.le_of_ble_eq_true rfl, Nat.le_of_ble_eq_true rfl⟩ ⟨Nat.le_of_ble_eq_true rfl, Nat.le_of_ble_eq_true rfl⟩ (Nat.le_of_ble_eq_true rfl) dJ5_startsWith_2_47 (fun r_4 hp => ?_)
  subst hp
  refine lv_icmp_ne (tgt := 82) hx hb dJ5_startsWith_2_50 (by decide) (fun c_50 => absurd (rfl) c_50) (fun c_50 => ?_)
  refine lv_iload hx hb dJ5_startsWith_2_53 (lv_at hl 0 rfl) ?_
  refine lv_iconst (v := 1) hx hb dJ5_startsWith_2_55 (by decide) ?_
  refine lv_icmp_ne (tgt := 63) hx hb dJ5_startsWith_2_56 (by decide) (fun c_56 => ?_) (fun c_56 => absurd c_56 (by decide))
  refine lv_aload_n hx hb dJ5_startsWith_2_63 rfl (lv_at hl 4 rfl) ?_
  refine lv_iload_n hx hb dJ5_startsWith_2_64 rfl (lv_at hl 7 rfl) ?_
  refine lv_aload hx hb dJ5_startsWith_2_65 (lv_at hl 3 rfl) ?_
  refine lv_iconst (v := 0) hx hb dJ5_startsWith_2_67 (by decide) ?_
  refine lv_iload hx hb dJ5_startsWith_2_68 (lv_at hl 1 rfl) ?_
  refine gcS5_iP hCF hwm hl.1 (m_mismatch l z H0 b b2 p0 w w2 T T2 h7 hp0 hB hB2 hT hT2 ) (lw_S q2249 q2250 q71 q2251) yd_J11_mismatch ⟨Nat.le_of_ble_eq_true rfl, Nat.le_of_ble_eq_true rfl⟩ ⟨Nat.le_of_ble_eq_true rfl, Nat.le_of_ble_eq_true rfl⟩ (Nat.le_of_ble_eq_true rfl) dJ5_startsWith_2_70 (fun rr hp => ?_)
  have hN := hp
  refine lv_if_ge (tgt := 80) hx hb dJ5_startsWith_2_73 (by decide) (fun c_73 => ?_) (fun c_73 => ?_)
  · skip
    refine lv_iconst (v := 0) hx hb dJ5_startsWith_2_80 (by decide) ?_
    refine g_zretP hx hb hr hlocks (rfl) ?_ dJ5_startsWith_2_81
    rcases hN with ⟨e1, e2⟩ | ⟨e1, e2⟩
    · first | (rw [decide_eq_true e2]; rfl) | (exact absurd c_73 (by rw [e1]; decide))
    · first | (rw [decide_eq_false e2]; rfl) | (exact absurd (Int32.not_lt.mp e1) c_73)
  · skip
    refine lv_iconst (v := 1) hx hb dJ5_startsWith_2_76 (by decide) ?_
    refine lv_goto (tgt := 81) hx hb dJ5_startsWith_2_77 (by decide) ?_
    refine g_zretP hx hb hr hlocks (rfl) ?_ dJ5_startsWith_2_81
    rcases hN with ⟨e1, e2⟩ | ⟨e1, e2⟩
    · first | (rw [decide_eq_true e2]; rfl) | (exact absurd c_73 (by rw [e1]; decide))
    · first | (rw [decide_eq_false e2]; rfl) | (exact absurd (Int32.not_lt.mp e1) c_73)
set_option maxHeartbeats 1000000 in
theorem m_startsWith (l : Launch) (z : State) (H0 : Heap) (a : Nat) (x : Nat) (w w2 : Bool) (b b2 : Nat) (T T2 : List Nat) {A : Nat → Prop} (k : Nat → Nat) (fv : Nat → Value) (h7 : T2.length ≤ 7) (hp0 : T2.length ≤ T.length) (hstr : gS z w H0 a b T) (hstr2 : gS z w2 H0 x b2 T2) (hs : sS z k fv A H0) : Met l yJ5_startsWith (ws_ yJ5_startsWith cJ5_startsWith 2 (some .boolean)) { frames := 3, cells := 0, slots := 0, locals := 67 } (gPc z H0 [.ref a, .ref x]) (gPi H0 (fun r => r = gb (decide (sub T 0 T2.length = T2)))) 0 0 gno := by
  refine g_start (by decide +kernel) (Nat.le_of_ble_eq_true rfl) ?_
  intro p e s m below meth c ls hx hb hr hlocks hml hown hname hts hwm hl
  have hown : s.vm.findClass "java/lang/String" = some m.cls := hown
  have hal : z.vm.Alike s.vm := hwm.alike
  have hCF : CallFix p m c cJ5_startsWith 2 s [.ref a, .ref x].toArray lw_all "java/lang/String" := ⟨hx, hb, hml, hown, hts⟩
  have hl : lv_has ls 2 [(0, .ref a), (1, .ref x)] := hl
  obtain ⟨h, hzz, hO, hB, hT⟩ := hstr
  obtain ⟨h2, hzz2, hO2, hB2, hT2⟩ := hstr2
  refine lv_aload_n hx hb dJ5_startsWith_0 rfl (lv_at hl 0 rfl) ?_
  refine lv_aload_n hx hb dJ5_startsWith_1 rfl (lv_at hl 1 rfl) ?_
  refine lv_iconst (v := 0) hx hb dJ5_startsWith_2 (by decide) ?_
  refine gcV2_iP hCF hwm hl.1 (m_startsAt l z H0 a x 0 w w2 b b2 T T2 k fv h7 (by omega) ⟨h, hzz, hO, hB, hT⟩ ⟨h2, hzz2, hO2, hB2, hT2⟩ hs ) (lw_V q2245 q2246 q2247 q64 q2248) ydv_J5_startsWith_2 (hO.recv hal) ⟨Nat.le_of_ble_eq_true rfl, Nat.le_of_ble_eq_true rfl⟩ ⟨Nat.le_of_ble_eq_true rfl, Nat.le_of_ble_eq_true rfl⟩ (Nat.le_of_ble_eq_true rfl) dJ5_startsWith_3 (fun r_1 hp => ?_)
  subst hp
  refine g_zretP hx hb hr hlocks (gb_narrow _) ?_ dJ5_startsWith_6
  rfl
set_option maxHeartbeats 1000000 in
theorem m_endsWith (l : Launch) (z : State) (H0 : Heap) (a : Nat) (x : Nat) (w w2 : Bool) (b b2 : Nat) (T T2 : List Nat) {A : Nat → Prop} (k : Nat → Nat) (fv : Nat → Value) (h7 : T2.length ≤ 7) (hp0 : T2.length ≤ T.length) (hstr : gS z w H0 a b T) (hstr2 : gS z w2 H0 x b2 T2) (hs : sS z k fv A H0) : Met l yJ5_endsWith (ws_ yJ5_endsWith cJ5_endsWith 2 (some .boolean)) { frames := 3, cells := 0, slots := 0, locals := 67 } (gPc z H0 [.ref a, .ref x]) (gPi H0 (fun r => r = gb (decide (sub T (T.length - T2.length) T2.length = T2)))) 0 0 gno := by
  refine g_start (by decide +kernel) (Nat.le_of_ble_eq_true rfl) ?_
  intro p e s m below meth c ls hx hb hr hlocks hml hown hname hts hwm hl
  have hown : s.vm.findClass "java/lang/String" = some m.cls := hown
  have hal : z.vm.Alike s.vm := hwm.alike
  have hCF : CallFix p m c cJ5_endsWith 2 s [.ref a, .ref x].toArray lw_all "java/lang/String" := ⟨hx, hb, hml, hown, hts⟩
  have hl : lv_has ls 2 [(0, .ref a), (1, .ref x)] := hl
  obtain ⟨h, hzz, hO, hB, hT⟩ := hstr
  obtain ⟨h2, hzz2, hO2, hB2, hT2⟩ := hstr2
  have hT1 := hT.1
  have hT21 := hT2.1
  refine lv_aload_n hx hb dJ5_endsWith_0 rfl (lv_at hl 0 rfl) ?_
  refine lv_aload_n hx hb dJ5_endsWith_1 rfl (lv_at hl 1 rfl) ?_
  refine lv_aload_n hx hb dJ5_endsWith_2 rfl (lv_at hl 0 rfl) ?_
  refine gcV0_iP hCF hwm hl.1 (m_length l z H0 a w b T k fv ⟨h, hzz, hO, hB, hT⟩ hs ) (lw_V q573 q219 q220 q64 q221) ydv_J5_length (hO.recv hal) ⟨Nat.le_of_ble_eq_true rfl, Nat.le_of_ble_eq_true rfl⟩ ⟨Nat.le_of_ble_eq_true rfl, Nat.le_of_ble_eq_true rfl⟩ (Nat.le_of_ble_eq_true rfl) dJ5_endsWith_3 (fun r_1 hp => ?_)
  subst hp
  refine lv_aload_n hx hb dJ5_endsWith_6 rfl (lv_at hl 1 rfl) ?_
  refine gcV0_iP hCF hwm hl.1 (m_length l z H0 x w2 b2 T2 k fv ⟨h2, hzz2, hO2, hB2, hT2⟩ hs ) (lw_V q573 q219 q220 q64 q221) ydv_J5_length (hO2.recv hal) ⟨Nat.le_of_ble_eq_true rfl, Nat.le_of_ble_eq_true rfl⟩ ⟨Nat.le_of_ble_eq_true rfl, Nat.le_of_ble_eq_true rfl⟩ (Nat.le_of_ble_eq_true rfl) dJ5_endsWith_7 (fun r_2 hp => ?_)
  subst hp
  refine lv_isub hx hb dJ5_endsWith_10 ?_
  refine g_topi (v := nI (T.length - T2.length)) (ai_sub (a := T.length) (b := T2.length) (rfl) (rfl) (by omega)) ?_
  refine gcV2_iP hCF hwm hl.1 (m_startsAt l z H0 a x (T.length - T2.length) w w2 b b2 T T2 k fv h7 (by omega) ⟨h, hzz, hO, hB, hT⟩ ⟨h2, hzz2, hO2, hB2, hT2⟩ hs ) (lw_V q2245 q2246 q2247 q64 q2248) ydv_J5_startsWith_2 (hO.recv hal) ⟨Nat.le_of_ble_eq_true rfl, Nat.le_of_ble_eq_true rfl⟩ ⟨Nat.le_of_ble_eq_true rfl, Nat.le_of_ble_eq_true rfl⟩ (Nat.le_of_ble_eq_true rfl) dJ5_endsWith_11 (fun r_3 hp => ?_)
  subst hp
  refine g_zretP hx hb hr hlocks (gb_narrow _) ?_ dJ5_endsWith_14
  rfl
