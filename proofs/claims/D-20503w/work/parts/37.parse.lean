/-! ## walks (written by tools) -/
set_option maxRecDepth 100000
def dkwJ25_of_3 : List UInt8 := [178, 0, 35, 167, 0, 12, 178, 0, 38, 167, 0, 6, 178, 0, 41, 176]
abbrev dktJ25_of_3 : List UInt8 := dkwJ25_of_3 ++ []
def dkwJ25_of_2 : List UInt8 := [178, 0, 19, 167, 0, 36, 178, 0, 24, 167, 0, 30, 178, 0, 29, 167, 0, 24, 178, 0, 32, 167, 0, 18]
abbrev dktJ25_of_2 : List UInt8 := dkwJ25_of_2 ++ dktJ25_of_3
def dkwJ25_of_1 : List UInt8 := [170, 0, 0, 0, 117, 0, 0, 0, 0, 0, 0, 0, 16, 0, 0, 0, 81, 0, 0, 0, 87, 0, 0, 0, 93, 0, 0, 0, 99, 0, 0, 0, 117, 0, 0, 0, 117, 0, 0, 0, 117, 0, 0, 0, 117, 0, 0, 0, 117, 0, 0, 0, 117, 0, 0, 0, 117, 0, 0, 0, 117, 0, 0, 0, 117, 0, 0, 0, 117, 0, 0, 0, 105, 0, 0, 0, 111, 0, 0, 0, 111]
abbrev dktJ25_of_1 : List UInt8 := dkwJ25_of_1 ++ dktJ25_of_2
def dkwJ25_of_0 : List UInt8 := [26, 16, 8, 124, 154, 0, 7, 178, 0, 13, 176, 26, 16, 16, 124]
abbrev dktJ25_of_0 : List UInt8 := dkwJ25_of_0 ++ dktJ25_of_1
theorem dksJ25_of_0 : cJ25_of.data.toList.drop 0 = dktJ25_of_0 := by decide +kernel
theorem dksJ25_of_1 : cJ25_of.data.toList.drop 15 = dktJ25_of_1 := dk_seg dksJ25_of_0 15 rfl rfl
theorem dksJ25_of_2 : cJ25_of.data.toList.drop 96 = dktJ25_of_2 := dk_seg dksJ25_of_1 81 rfl rfl
theorem dksJ25_of_3 : cJ25_of.data.toList.drop 120 = dktJ25_of_3 := dk_seg dksJ25_of_2 24 rfl rfl
theorem dJ25_of_0 : decode cJ25_of 0 = .ok (.iload_n 0, 1) := dk_26 (dk_at dksJ25_of_0 0 rfl rfl)
theorem dJ25_of_1 : decode cJ25_of 1 = .ok (.bipush 8, 2) := dk_16 8 (dk_at dksJ25_of_0 1 rfl rfl)
theorem dJ25_of_3 : decode cJ25_of 3 = .ok (.iushr, 1) := dk_124 (dk_at dksJ25_of_0 3 rfl rfl)
theorem dJ25_of_4 : decode cJ25_of 4 = .ok (.ifCond .ne 7, 3) := dk_154 0 7 (dk_at dksJ25_of_0 4 rfl rfl)
theorem dJ25_of_7 : decode cJ25_of 7 = .ok (.getstatic 13, 3) := dk_178 0 13 (dk_at dksJ25_of_0 7 rfl rfl)
theorem dJ25_of_10 : decode cJ25_of 10 = .ok (.areturn, 1) := dk_176 (dk_at dksJ25_of_0 10 rfl rfl)
theorem dJ25_of_11 : decode cJ25_of 11 = .ok (.iload_n 0, 1) := dk_26 (dk_at dksJ25_of_0 11 rfl rfl)
theorem dJ25_of_12 : decode cJ25_of 12 = .ok (.bipush 16, 2) := dk_16 16 (dk_at dksJ25_of_0 12 rfl rfl)
theorem dJ25_of_14 : decode cJ25_of 14 = .ok (.iushr, 1) := dk_124 (dk_at dksJ25_of_0 14 rfl rfl)
theorem dJ25_of_15 : decode cJ25_of 15 = .ok (.tableswitch 117 0 16 #[81, 87, 93, 99, 117, 117, 117, 117, 117, 117, 117, 117, 117, 117, 105, 111, 111], 81) := by decide +kernel
theorem dJ25_of_96 : decode cJ25_of 96 = .ok (.getstatic 19, 3) := dk_178 0 19 (dk_at dksJ25_of_2 0 rfl rfl)
theorem dJ25_of_99 : decode cJ25_of 99 = .ok (.goto 36, 3) := dk_167 0 36 (dk_at dksJ25_of_2 3 rfl rfl)
theorem dJ25_of_102 : decode cJ25_of 102 = .ok (.getstatic 24, 3) := dk_178 0 24 (dk_at dksJ25_of_2 6 rfl rfl)
theorem dJ25_of_105 : decode cJ25_of 105 = .ok (.goto 30, 3) := dk_167 0 30 (dk_at dksJ25_of_2 9 rfl rfl)
theorem dJ25_of_108 : decode cJ25_of 108 = .ok (.getstatic 29, 3) := dk_178 0 29 (dk_at dksJ25_of_2 12 rfl rfl)
theorem dJ25_of_111 : decode cJ25_of 111 = .ok (.goto 24, 3) := dk_167 0 24 (dk_at dksJ25_of_2 15 rfl rfl)
theorem dJ25_of_114 : decode cJ25_of 114 = .ok (.getstatic 32, 3) := dk_178 0 32 (dk_at dksJ25_of_2 18 rfl rfl)
theorem dJ25_of_117 : decode cJ25_of 117 = .ok (.goto 18, 3) := dk_167 0 18 (dk_at dksJ25_of_2 21 rfl rfl)
theorem dJ25_of_120 : decode cJ25_of 120 = .ok (.getstatic 35, 3) := dk_178 0 35 (dk_at dksJ25_of_3 0 rfl rfl)
theorem dJ25_of_123 : decode cJ25_of 123 = .ok (.goto 12, 3) := dk_167 0 12 (dk_at dksJ25_of_3 3 rfl rfl)
theorem dJ25_of_126 : decode cJ25_of 126 = .ok (.getstatic 38, 3) := dk_178 0 38 (dk_at dksJ25_of_3 6 rfl rfl)
theorem dJ25_of_129 : decode cJ25_of 129 = .ok (.goto 6, 3) := dk_167 0 6 (dk_at dksJ25_of_3 9 rfl rfl)
theorem dJ25_of_132 : decode cJ25_of 132 = .ok (.getstatic 41, 3) := dk_178 0 41 (dk_at dksJ25_of_3 12 rfl rfl)
theorem dJ25_of_135 : decode cJ25_of 135 = .ok (.areturn, 1) := dk_176 (dk_at dksJ25_of_3 15 rfl rfl)
def dkwJ26_digit_1 : List UInt8 := [163, 0, 7, 29, 167, 0, 4, 2, 172]
abbrev dktJ26_digit_1 : List UInt8 := dkwJ26_digit_1 ++ []
def dkwJ26_digit_0 : List UInt8 := [178, 0, 25, 27, 51, 62, 29, 155, 0, 23, 29, 28, 162, 0, 18, 28, 5, 161, 0, 13, 28, 16, 36]
abbrev dktJ26_digit_0 : List UInt8 := dkwJ26_digit_0 ++ dktJ26_digit_1
theorem dksJ26_digit_0 : cJ26_digit.data.toList.drop 0 = dktJ26_digit_0 := by decide +kernel
theorem dksJ26_digit_1 : cJ26_digit.data.toList.drop 23 = dktJ26_digit_1 := dk_seg dksJ26_digit_0 23 rfl rfl
theorem dJ26_digit_0 : decode cJ26_digit 0 = .ok (.getstatic 25, 3) := dk_178 0 25 (dk_at dksJ26_digit_0 0 rfl rfl)
theorem dJ26_digit_3 : decode cJ26_digit 3 = .ok (.iload_n 1, 1) := dk_27 (dk_at dksJ26_digit_0 3 rfl rfl)
theorem dJ26_digit_4 : decode cJ26_digit 4 = .ok (.baload, 1) := dk_51 (dk_at dksJ26_digit_0 4 rfl rfl)
theorem dJ26_digit_5 : decode cJ26_digit 5 = .ok (.istore_n 3, 1) := dk_62 (dk_at dksJ26_digit_0 5 rfl rfl)
theorem dJ26_digit_6 : decode cJ26_digit 6 = .ok (.iload_n 3, 1) := dk_29 (dk_at dksJ26_digit_0 6 rfl rfl)
theorem dJ26_digit_7 : decode cJ26_digit 7 = .ok (.ifCond .lt 23, 3) := dk_155 0 23 (dk_at dksJ26_digit_0 7 rfl rfl)
theorem dJ26_digit_10 : decode cJ26_digit 10 = .ok (.iload_n 3, 1) := dk_29 (dk_at dksJ26_digit_0 10 rfl rfl)
theorem dJ26_digit_11 : decode cJ26_digit 11 = .ok (.iload_n 2, 1) := dk_28 (dk_at dksJ26_digit_0 11 rfl rfl)
theorem dJ26_digit_12 : decode cJ26_digit 12 = .ok (.if_icmp .ge 18, 3) := dk_162 0 18 (dk_at dksJ26_digit_0 12 rfl rfl)
theorem dJ26_digit_15 : decode cJ26_digit 15 = .ok (.iload_n 2, 1) := dk_28 (dk_at dksJ26_digit_0 15 rfl rfl)
theorem dJ26_digit_16 : decode cJ26_digit 16 = .ok (.iconst 2, 1) := dk_5 (dk_at dksJ26_digit_0 16 rfl rfl)
theorem dJ26_digit_17 : decode cJ26_digit 17 = .ok (.if_icmp .lt 13, 3) := dk_161 0 13 (dk_at dksJ26_digit_0 17 rfl rfl)
theorem dJ26_digit_20 : decode cJ26_digit 20 = .ok (.iload_n 2, 1) := dk_28 (dk_at dksJ26_digit_0 20 rfl rfl)
theorem dJ26_digit_21 : decode cJ26_digit 21 = .ok (.bipush 36, 2) := dk_16 36 (dk_at dksJ26_digit_0 21 rfl rfl)
theorem dJ26_digit_23 : decode cJ26_digit 23 = .ok (.if_icmp .gt 7, 3) := dk_163 0 7 (dk_at dksJ26_digit_1 0 rfl rfl)
theorem dJ26_digit_26 : decode cJ26_digit 26 = .ok (.iload_n 3, 1) := dk_29 (dk_at dksJ26_digit_1 3 rfl rfl)
theorem dJ26_digit_27 : decode cJ26_digit 27 = .ok (.goto 4, 3) := dk_167 0 4 (dk_at dksJ26_digit_1 4 rfl rfl)
theorem dJ26_digit_30 : decode cJ26_digit 30 = .ok (.iconst (-1), 1) := dk_2 (dk_at dksJ26_digit_1 7 rfl rfl)
theorem dJ26_digit_31 : decode cJ26_digit 31 = .ok (.ireturn, 1) := dk_172 (dk_at dksJ26_digit_1 8 rfl rfl)
def dkwJ19_digit_2_0 : List UInt8 := [26, 184, 0, 158, 26, 27, 182, 0, 252, 172]
abbrev dktJ19_digit_2_0 : List UInt8 := dkwJ19_digit_2_0 ++ []
theorem dksJ19_digit_2_0 : cJ19_digit_2.data.toList.drop 0 = dktJ19_digit_2_0 := by decide +kernel
theorem dJ19_digit_2_0 : decode cJ19_digit_2 0 = .ok (.iload_n 0, 1) := dk_26 (dk_at dksJ19_digit_2_0 0 rfl rfl)
theorem dJ19_digit_2_1 : decode cJ19_digit_2 1 = .ok (.invokestatic 158, 3) := dk_184 0 158 (dk_at dksJ19_digit_2_0 1 rfl rfl)
theorem dJ19_digit_2_4 : decode cJ19_digit_2 4 = .ok (.iload_n 0, 1) := dk_26 (dk_at dksJ19_digit_2_0 4 rfl rfl)
theorem dJ19_digit_2_5 : decode cJ19_digit_2 5 = .ok (.iload_n 1, 1) := dk_27 (dk_at dksJ19_digit_2_0 5 rfl rfl)
theorem dJ19_digit_2_6 : decode cJ19_digit_2 6 = .ok (.invokevirtual 252, 3) := dk_182 0 252 (dk_at dksJ19_digit_2_0 6 rfl rfl)
theorem dJ19_digit_2_9 : decode cJ19_digit_2 9 = .ok (.ireturn, 1) := dk_172 (dk_at dksJ19_digit_2_0 9 rfl rfl)
def dkwJ19_digit_0 : List UInt8 := [26, 27, 184, 0, 248, 172]
abbrev dktJ19_digit_0 : List UInt8 := dkwJ19_digit_0 ++ []
theorem dksJ19_digit_0 : cJ19_digit.data.toList.drop 0 = dktJ19_digit_0 := by decide +kernel
theorem dJ19_digit_0 : decode cJ19_digit 0 = .ok (.iload_n 0, 1) := dk_26 (dk_at dksJ19_digit_0 0 rfl rfl)
theorem dJ19_digit_1 : decode cJ19_digit 1 = .ok (.iload_n 1, 1) := dk_27 (dk_at dksJ19_digit_0 1 rfl rfl)
theorem dJ19_digit_2 : decode cJ19_digit 2 = .ok (.invokestatic 248, 3) := dk_184 0 248 (dk_at dksJ19_digit_0 2 rfl rfl)
theorem dJ19_digit_5 : decode cJ19_digit 5 = .ok (.ireturn, 1) := dk_172 (dk_at dksJ19_digit_0 5 rfl rfl)
def dkwJ20_checkFromToIndex_0 : List UInt8 := [26, 27, 28, 1, 184, 0, 111, 172]
abbrev dktJ20_checkFromToIndex_0 : List UInt8 := dkwJ20_checkFromToIndex_0 ++ []
theorem dksJ20_checkFromToIndex_0 : cJ20_checkFromToIndex.data.toList.drop 0 = dktJ20_checkFromToIndex_0 := by decide +kernel
theorem dJ20_checkFromToIndex_0 : decode cJ20_checkFromToIndex 0 = .ok (.iload_n 0, 1) := dk_26 (dk_at dksJ20_checkFromToIndex_0 0 rfl rfl)
theorem dJ20_checkFromToIndex_1 : decode cJ20_checkFromToIndex 1 = .ok (.iload_n 1, 1) := dk_27 (dk_at dksJ20_checkFromToIndex_0 1 rfl rfl)
theorem dJ20_checkFromToIndex_2 : decode cJ20_checkFromToIndex 2 = .ok (.iload_n 2, 1) := dk_28 (dk_at dksJ20_checkFromToIndex_0 2 rfl rfl)
theorem dJ20_checkFromToIndex_3 : decode cJ20_checkFromToIndex 3 = .ok (.aconst_null, 1) := dk_1 (dk_at dksJ20_checkFromToIndex_0 3 rfl rfl)
theorem dJ20_checkFromToIndex_4 : decode cJ20_checkFromToIndex 4 = .ok (.invokestatic 111, 3) := dk_184 0 111 (dk_at dksJ20_checkFromToIndex_0 4 rfl rfl)
theorem dJ20_checkFromToIndex_7 : decode cJ20_checkFromToIndex 7 = .ok (.ireturn, 1) := dk_172 (dk_at dksJ20_checkFromToIndex_0 7 rfl rfl)
def dkwJ20_requireNonNull_0 : List UInt8 := [42, 199, 0, 11, 187, 0, 84, 89, 183, 0, 86, 191, 42, 176]
abbrev dktJ20_requireNonNull_0 : List UInt8 := dkwJ20_requireNonNull_0 ++ []
theorem dksJ20_requireNonNull_0 : cJ20_requireNonNull.data.toList.drop 0 = dktJ20_requireNonNull_0 := by decide +kernel
theorem dJ20_requireNonNull_0 : decode cJ20_requireNonNull 0 = .ok (.aload_n 0, 1) := dk_42 (dk_at dksJ20_requireNonNull_0 0 rfl rfl)
theorem dJ20_requireNonNull_1 : decode cJ20_requireNonNull 1 = .ok (.ifnonnull 11, 3) := dk_199 0 11 (dk_at dksJ20_requireNonNull_0 1 rfl rfl)
theorem dJ20_requireNonNull_4 : decode cJ20_requireNonNull 4 = .ok (.new 84, 3) := dk_187 0 84 (dk_at dksJ20_requireNonNull_0 4 rfl rfl)
theorem dJ20_requireNonNull_7 : decode cJ20_requireNonNull 7 = .ok (.dup, 1) := dk_89 (dk_at dksJ20_requireNonNull_0 7 rfl rfl)
theorem dJ20_requireNonNull_8 : decode cJ20_requireNonNull 8 = .ok (.invokespecial 86, 3) := dk_183 0 86 (dk_at dksJ20_requireNonNull_0 8 rfl rfl)
theorem dJ20_requireNonNull_11 : decode cJ20_requireNonNull 11 = .ok (.athrow, 1) := dk_191 (dk_at dksJ20_requireNonNull_0 11 rfl rfl)
theorem dJ20_requireNonNull_12 : decode cJ20_requireNonNull 12 = .ok (.aload_n 0, 1) := dk_42 (dk_at dksJ20_requireNonNull_0 12 rfl rfl)
theorem dJ20_requireNonNull_13 : decode cJ20_requireNonNull 13 = .ok (.areturn, 1) := dk_176 (dk_at dksJ20_requireNonNull_0 13 rfl rfl)
def dkwJ16_parseLong_3_11 : List UInt8 := [167, 0, 6, 22, 10, 117, 173, 42, 27, 184, 0, 170, 191]
abbrev dktJ16_parseLong_3_11 : List UInt8 := dkwJ16_parseLong_3_11 ++ []
def dkwJ16_parseLong_3_10 : List UInt8 := [27, 184, 0, 170, 191, 22, 10, 21, 12, 133, 101, 55, 10, 167, 255, 184, 28, 153, 0, 8, 22, 10]
abbrev dktJ16_parseLong_3_10 : List UInt8 := dkwJ16_parseLong_3_10 ++ dktJ16_parseLong_3_11
def dkwJ16_parseLong_3_9 : List UInt8 := [184, 0, 170, 191, 22, 10, 27, 133, 105, 55, 10, 22, 10, 22, 5, 21, 12, 133, 97, 148, 156, 0, 9, 42]
abbrev dktJ16_parseLong_3_9 : List UInt8 := dkwJ16_parseLong_3_9 ++ dktJ16_parseLong_3_10
def dkwJ16_parseLong_3_8 : List UInt8 := [182, 0, 164, 27, 184, 0, 174, 54, 12, 21, 12, 155, 0, 11, 22, 10, 22, 8, 148, 156, 0, 9, 42, 27]
abbrev dktJ16_parseLong_3_8 : List UInt8 := dkwJ16_parseLong_3_8 ++ dktJ16_parseLong_3_9
def dkwJ16_parseLong_3_7 : List UInt8 := [132, 3, 1, 22, 5, 27, 133, 109, 55, 8, 9, 55, 10, 29, 21, 4, 162, 0, 72, 42, 29, 132, 3, 1]
abbrev dktJ16_parseLong_3_7 : List UInt8 := dkwJ16_parseLong_3_7 ++ dktJ16_parseLong_3_8
def dkwJ16_parseLong_3_6 : List UInt8 := [16, 43, 159, 0, 9, 42, 27, 184, 0, 170, 191, 21, 4, 4, 160, 0, 9, 42, 27, 184, 0, 170, 191]
abbrev dktJ16_parseLong_3_6 : List UInt8 := dkwJ16_parseLong_3_6 ++ dktJ16_parseLong_3_7
def dkwJ16_parseLong_3_5 : List UInt8 := [16, 48, 162, 0, 48, 21, 7, 16, 45, 160, 0, 13, 4, 61, 20, 0, 168, 55, 5, 167, 0, 16, 21, 7]
abbrev dktJ16_parseLong_3_5 : List UInt8 := dkwJ16_parseLong_3_5 ++ dktJ16_parseLong_3_6
def dkwJ16_parseLong_3_4 : List UInt8 := [182, 0, 158, 54, 4, 20, 0, 162, 55, 5, 21, 4, 158, 0, 160, 42, 3, 182, 0, 164, 54, 7, 21, 7]
abbrev dktJ16_parseLong_3_4 : List UInt8 := dkwJ16_parseLong_3_4 ++ dktJ16_parseLong_3_5
def dkwJ16_parseLong_3_3 : List UInt8 := [182, 0, 61, 27, 182, 0, 151, 18, 156, 182, 0, 61, 182, 0, 68, 183, 0, 146, 191, 3, 61, 3, 62, 42]
abbrev dktJ16_parseLong_3_3 : List UInt8 := dkwJ16_parseLong_3_3 ++ dktJ16_parseLong_3_4
def dkwJ16_parseLong_3_2 : List UInt8 := [183, 0, 146, 191, 27, 16, 36, 164, 0, 35, 187, 0, 142, 89, 187, 0, 55, 89, 183, 0, 57, 18, 149]
abbrev dktJ16_parseLong_3_2 : List UInt8 := dkwJ16_parseLong_3_2 ++ dktJ16_parseLong_3_3
def dkwJ16_parseLong_3_1 : List UInt8 := [187, 0, 55, 89, 183, 0, 57, 18, 149, 182, 0, 61, 27, 182, 0, 151, 18, 154, 182, 0, 61, 182, 0, 68]
abbrev dktJ16_parseLong_3_1 : List UInt8 := dkwJ16_parseLong_3_1 ++ dktJ16_parseLong_3_2
def dkwJ16_parseLong_3_0 : List UInt8 := [42, 199, 0, 13, 187, 0, 142, 89, 18, 144, 183, 0, 146, 191, 27, 5, 162, 0, 35, 187, 0, 142, 89]
abbrev dktJ16_parseLong_3_0 : List UInt8 := dkwJ16_parseLong_3_0 ++ dktJ16_parseLong_3_1
theorem dksJ16_parseLong_3_0 : cJ16_parseLong_3.data.toList.drop 0 = dktJ16_parseLong_3_0 := by decide +kernel
theorem dksJ16_parseLong_3_1 : cJ16_parseLong_3.data.toList.drop 23 = dktJ16_parseLong_3_1 := dk_seg dksJ16_parseLong_3_0 23 rfl rfl
theorem dksJ16_parseLong_3_2 : cJ16_parseLong_3.data.toList.drop 47 = dktJ16_parseLong_3_2 := dk_seg dksJ16_parseLong_3_1 24 rfl rfl
theorem dksJ16_parseLong_3_3 : cJ16_parseLong_3.data.toList.drop 70 = dktJ16_parseLong_3_3 := dk_seg dksJ16_parseLong_3_2 23 rfl rfl
theorem dksJ16_parseLong_3_4 : cJ16_parseLong_3.data.toList.drop 94 = dktJ16_parseLong_3_4 := dk_seg dksJ16_parseLong_3_3 24 rfl rfl
theorem dksJ16_parseLong_3_5 : cJ16_parseLong_3.data.toList.drop 118 = dktJ16_parseLong_3_5 := dk_seg dksJ16_parseLong_3_4 24 rfl rfl
theorem dksJ16_parseLong_3_6 : cJ16_parseLong_3.data.toList.drop 142 = dktJ16_parseLong_3_6 := dk_seg dksJ16_parseLong_3_5 24 rfl rfl
theorem dksJ16_parseLong_3_7 : cJ16_parseLong_3.data.toList.drop 165 = dktJ16_parseLong_3_7 := dk_seg dksJ16_parseLong_3_6 23 rfl rfl
theorem dksJ16_parseLong_3_8 : cJ16_parseLong_3.data.toList.drop 189 = dktJ16_parseLong_3_8 := dk_seg dksJ16_parseLong_3_7 24 rfl rfl
theorem dksJ16_parseLong_3_9 : cJ16_parseLong_3.data.toList.drop 213 = dktJ16_parseLong_3_9 := dk_seg dksJ16_parseLong_3_8 24 rfl rfl
theorem dksJ16_parseLong_3_10 : cJ16_parseLong_3.data.toList.drop 237 = dktJ16_parseLong_3_10 := dk_seg dksJ16_parseLong_3_9 24 rfl rfl
theorem dksJ16_parseLong_3_11 : cJ16_parseLong_3.data.toList.drop 259 = dktJ16_parseLong_3_11 := dk_seg dksJ16_parseLong_3_10 22 rfl rfl
theorem dJ16_parseLong_3_0 : decode cJ16_parseLong_3 0 = .ok (.aload_n 0, 1) := dk_42 (dk_at dksJ16_parseLong_3_0 0 rfl rfl)
theorem dJ16_parseLong_3_1 : decode cJ16_parseLong_3 1 = .ok (.ifnonnull 13, 3) := dk_199 0 13 (dk_at dksJ16_parseLong_3_0 1 rfl rfl)
theorem dJ16_parseLong_3_4 : decode cJ16_parseLong_3 4 = .ok (.new 142, 3) := dk_187 0 142 (dk_at dksJ16_parseLong_3_0 4 rfl rfl)
theorem dJ16_parseLong_3_7 : decode cJ16_parseLong_3 7 = .ok (.dup, 1) := dk_89 (dk_at dksJ16_parseLong_3_0 7 rfl rfl)
theorem dJ16_parseLong_3_8 : decode cJ16_parseLong_3 8 = .ok (.ldc 144, 2) := dk_18 144 (dk_at dksJ16_parseLong_3_0 8 rfl rfl)
theorem dJ16_parseLong_3_10 : decode cJ16_parseLong_3 10 = .ok (.invokespecial 146, 3) := dk_183 0 146 (dk_at dksJ16_parseLong_3_0 10 rfl rfl)
theorem dJ16_parseLong_3_13 : decode cJ16_parseLong_3 13 = .ok (.athrow, 1) := dk_191 (dk_at dksJ16_parseLong_3_0 13 rfl rfl)
theorem dJ16_parseLong_3_14 : decode cJ16_parseLong_3 14 = .ok (.iload_n 1, 1) := dk_27 (dk_at dksJ16_parseLong_3_0 14 rfl rfl)
theorem dJ16_parseLong_3_15 : decode cJ16_parseLong_3 15 = .ok (.iconst 2, 1) := dk_5 (dk_at dksJ16_parseLong_3_0 15 rfl rfl)
theorem dJ16_parseLong_3_16 : decode cJ16_parseLong_3 16 = .ok (.if_icmp .ge 35, 3) := dk_162 0 35 (dk_at dksJ16_parseLong_3_0 16 rfl rfl)
theorem dJ16_parseLong_3_19 : decode cJ16_parseLong_3 19 = .ok (.new 142, 3) := dk_187 0 142 (dk_at dksJ16_parseLong_3_0 19 rfl rfl)
theorem dJ16_parseLong_3_22 : decode cJ16_parseLong_3 22 = .ok (.dup, 1) := dk_89 (dk_at dksJ16_parseLong_3_0 22 rfl rfl)
theorem dJ16_parseLong_3_23 : decode cJ16_parseLong_3 23 = .ok (.new 55, 3) := dk_187 0 55 (dk_at dksJ16_parseLong_3_1 0 rfl rfl)
theorem dJ16_parseLong_3_26 : decode cJ16_parseLong_3 26 = .ok (.dup, 1) := dk_89 (dk_at dksJ16_parseLong_3_1 3 rfl rfl)
theorem dJ16_parseLong_3_27 : decode cJ16_parseLong_3 27 = .ok (.invokespecial 57, 3) := dk_183 0 57 (dk_at dksJ16_parseLong_3_1 4 rfl rfl)
theorem dJ16_parseLong_3_30 : decode cJ16_parseLong_3 30 = .ok (.ldc 149, 2) := dk_18 149 (dk_at dksJ16_parseLong_3_1 7 rfl rfl)
theorem dJ16_parseLong_3_32 : decode cJ16_parseLong_3 32 = .ok (.invokevirtual 61, 3) := dk_182 0 61 (dk_at dksJ16_parseLong_3_1 9 rfl rfl)
theorem dJ16_parseLong_3_35 : decode cJ16_parseLong_3 35 = .ok (.iload_n 1, 1) := dk_27 (dk_at dksJ16_parseLong_3_1 12 rfl rfl)
theorem dJ16_parseLong_3_36 : decode cJ16_parseLong_3 36 = .ok (.invokevirtual 151, 3) := dk_182 0 151 (dk_at dksJ16_parseLong_3_1 13 rfl rfl)
theorem dJ16_parseLong_3_39 : decode cJ16_parseLong_3 39 = .ok (.ldc 154, 2) := dk_18 154 (dk_at dksJ16_parseLong_3_1 16 rfl rfl)
theorem dJ16_parseLong_3_41 : decode cJ16_parseLong_3 41 = .ok (.invokevirtual 61, 3) := dk_182 0 61 (dk_at dksJ16_parseLong_3_1 18 rfl rfl)
theorem dJ16_parseLong_3_44 : decode cJ16_parseLong_3 44 = .ok (.invokevirtual 68, 3) := dk_182 0 68 (dk_at dksJ16_parseLong_3_1 21 rfl rfl)
theorem dJ16_parseLong_3_47 : decode cJ16_parseLong_3 47 = .ok (.invokespecial 146, 3) := dk_183 0 146 (dk_at dksJ16_parseLong_3_2 0 rfl rfl)
theorem dJ16_parseLong_3_50 : decode cJ16_parseLong_3 50 = .ok (.athrow, 1) := dk_191 (dk_at dksJ16_parseLong_3_2 3 rfl rfl)
theorem dJ16_parseLong_3_51 : decode cJ16_parseLong_3 51 = .ok (.iload_n 1, 1) := dk_27 (dk_at dksJ16_parseLong_3_2 4 rfl rfl)
theorem dJ16_parseLong_3_52 : decode cJ16_parseLong_3 52 = .ok (.bipush 36, 2) := dk_16 36 (dk_at dksJ16_parseLong_3_2 5 rfl rfl)
theorem dJ16_parseLong_3_54 : decode cJ16_parseLong_3 54 = .ok (.if_icmp .le 35, 3) := dk_164 0 35 (dk_at dksJ16_parseLong_3_2 7 rfl rfl)
theorem dJ16_parseLong_3_57 : decode cJ16_parseLong_3 57 = .ok (.new 142, 3) := dk_187 0 142 (dk_at dksJ16_parseLong_3_2 10 rfl rfl)
theorem dJ16_parseLong_3_60 : decode cJ16_parseLong_3 60 = .ok (.dup, 1) := dk_89 (dk_at dksJ16_parseLong_3_2 13 rfl rfl)
theorem dJ16_parseLong_3_61 : decode cJ16_parseLong_3 61 = .ok (.new 55, 3) := dk_187 0 55 (dk_at dksJ16_parseLong_3_2 14 rfl rfl)
theorem dJ16_parseLong_3_64 : decode cJ16_parseLong_3 64 = .ok (.dup, 1) := dk_89 (dk_at dksJ16_parseLong_3_2 17 rfl rfl)
theorem dJ16_parseLong_3_65 : decode cJ16_parseLong_3 65 = .ok (.invokespecial 57, 3) := dk_183 0 57 (dk_at dksJ16_parseLong_3_2 18 rfl rfl)
theorem dJ16_parseLong_3_68 : decode cJ16_parseLong_3 68 = .ok (.ldc 149, 2) := dk_18 149 (dk_at dksJ16_parseLong_3_2 21 rfl rfl)
theorem dJ16_parseLong_3_70 : decode cJ16_parseLong_3 70 = .ok (.invokevirtual 61, 3) := dk_182 0 61 (dk_at dksJ16_parseLong_3_3 0 rfl rfl)
theorem dJ16_parseLong_3_73 : decode cJ16_parseLong_3 73 = .ok (.iload_n 1, 1) := dk_27 (dk_at dksJ16_parseLong_3_3 3 rfl rfl)
theorem dJ16_parseLong_3_74 : decode cJ16_parseLong_3 74 = .ok (.invokevirtual 151, 3) := dk_182 0 151 (dk_at dksJ16_parseLong_3_3 4 rfl rfl)
theorem dJ16_parseLong_3_77 : decode cJ16_parseLong_3 77 = .ok (.ldc 156, 2) := dk_18 156 (dk_at dksJ16_parseLong_3_3 7 rfl rfl)
theorem dJ16_parseLong_3_79 : decode cJ16_parseLong_3 79 = .ok (.invokevirtual 61, 3) := dk_182 0 61 (dk_at dksJ16_parseLong_3_3 9 rfl rfl)
theorem dJ16_parseLong_3_82 : decode cJ16_parseLong_3 82 = .ok (.invokevirtual 68, 3) := dk_182 0 68 (dk_at dksJ16_parseLong_3_3 12 rfl rfl)
theorem dJ16_parseLong_3_85 : decode cJ16_parseLong_3 85 = .ok (.invokespecial 146, 3) := dk_183 0 146 (dk_at dksJ16_parseLong_3_3 15 rfl rfl)
theorem dJ16_parseLong_3_88 : decode cJ16_parseLong_3 88 = .ok (.athrow, 1) := dk_191 (dk_at dksJ16_parseLong_3_3 18 rfl rfl)
theorem dJ16_parseLong_3_89 : decode cJ16_parseLong_3 89 = .ok (.iconst 0, 1) := dk_3 (dk_at dksJ16_parseLong_3_3 19 rfl rfl)
theorem dJ16_parseLong_3_90 : decode cJ16_parseLong_3 90 = .ok (.istore_n 2, 1) := dk_61 (dk_at dksJ16_parseLong_3_3 20 rfl rfl)
theorem dJ16_parseLong_3_91 : decode cJ16_parseLong_3 91 = .ok (.iconst 0, 1) := dk_3 (dk_at dksJ16_parseLong_3_3 21 rfl rfl)
theorem dJ16_parseLong_3_92 : decode cJ16_parseLong_3 92 = .ok (.istore_n 3, 1) := dk_62 (dk_at dksJ16_parseLong_3_3 22 rfl rfl)
theorem dJ16_parseLong_3_93 : decode cJ16_parseLong_3 93 = .ok (.aload_n 0, 1) := dk_42 (dk_at dksJ16_parseLong_3_3 23 rfl rfl)
theorem dJ16_parseLong_3_94 : decode cJ16_parseLong_3 94 = .ok (.invokevirtual 158, 3) := dk_182 0 158 (dk_at dksJ16_parseLong_3_4 0 rfl rfl)
theorem dJ16_parseLong_3_97 : decode cJ16_parseLong_3 97 = .ok (.istore 4, 2) := dk_54 4 (dk_at dksJ16_parseLong_3_4 3 rfl rfl)
theorem dJ16_parseLong_3_99 : decode cJ16_parseLong_3 99 = .ok (.ldc2_w 162, 3) := dk_20 0 162 (dk_at dksJ16_parseLong_3_4 5 rfl rfl)
theorem dJ16_parseLong_3_102 : decode cJ16_parseLong_3 102 = .ok (.lstore 5, 2) := dk_55 5 (dk_at dksJ16_parseLong_3_4 8 rfl rfl)
theorem dJ16_parseLong_3_104 : decode cJ16_parseLong_3 104 = .ok (.iload 4, 2) := dk_21 4 (dk_at dksJ16_parseLong_3_4 10 rfl rfl)
theorem dJ16_parseLong_3_106 : decode cJ16_parseLong_3 106 = .ok (.ifCond .le 160, 3) := dk_158 0 160 (dk_at dksJ16_parseLong_3_4 12 rfl rfl)
theorem dJ16_parseLong_3_109 : decode cJ16_parseLong_3 109 = .ok (.aload_n 0, 1) := dk_42 (dk_at dksJ16_parseLong_3_4 15 rfl rfl)
theorem dJ16_parseLong_3_110 : decode cJ16_parseLong_3 110 = .ok (.iconst 0, 1) := dk_3 (dk_at dksJ16_parseLong_3_4 16 rfl rfl)
theorem dJ16_parseLong_3_111 : decode cJ16_parseLong_3 111 = .ok (.invokevirtual 164, 3) := dk_182 0 164 (dk_at dksJ16_parseLong_3_4 17 rfl rfl)
theorem dJ16_parseLong_3_114 : decode cJ16_parseLong_3 114 = .ok (.istore 7, 2) := dk_54 7 (dk_at dksJ16_parseLong_3_4 20 rfl rfl)
theorem dJ16_parseLong_3_116 : decode cJ16_parseLong_3 116 = .ok (.iload 7, 2) := dk_21 7 (dk_at dksJ16_parseLong_3_4 22 rfl rfl)
theorem dJ16_parseLong_3_118 : decode cJ16_parseLong_3 118 = .ok (.bipush 48, 2) := dk_16 48 (dk_at dksJ16_parseLong_3_5 0 rfl rfl)
theorem dJ16_parseLong_3_120 : decode cJ16_parseLong_3 120 = .ok (.if_icmp .ge 48, 3) := dk_162 0 48 (dk_at dksJ16_parseLong_3_5 2 rfl rfl)
theorem dJ16_parseLong_3_123 : decode cJ16_parseLong_3 123 = .ok (.iload 7, 2) := dk_21 7 (dk_at dksJ16_parseLong_3_5 5 rfl rfl)
theorem dJ16_parseLong_3_125 : decode cJ16_parseLong_3 125 = .ok (.bipush 45, 2) := dk_16 45 (dk_at dksJ16_parseLong_3_5 7 rfl rfl)
theorem dJ16_parseLong_3_127 : decode cJ16_parseLong_3 127 = .ok (.if_icmp .ne 13, 3) := dk_160 0 13 (dk_at dksJ16_parseLong_3_5 9 rfl rfl)
theorem dJ16_parseLong_3_130 : decode cJ16_parseLong_3 130 = .ok (.iconst 1, 1) := dk_4 (dk_at dksJ16_parseLong_3_5 12 rfl rfl)
theorem dJ16_parseLong_3_131 : decode cJ16_parseLong_3 131 = .ok (.istore_n 2, 1) := dk_61 (dk_at dksJ16_parseLong_3_5 13 rfl rfl)
theorem dJ16_parseLong_3_132 : decode cJ16_parseLong_3 132 = .ok (.ldc2_w 168, 3) := dk_20 0 168 (dk_at dksJ16_parseLong_3_5 14 rfl rfl)
theorem dJ16_parseLong_3_135 : decode cJ16_parseLong_3 135 = .ok (.lstore 5, 2) := dk_55 5 (dk_at dksJ16_parseLong_3_5 17 rfl rfl)
theorem dJ16_parseLong_3_137 : decode cJ16_parseLong_3 137 = .ok (.goto 16, 3) := dk_167 0 16 (dk_at dksJ16_parseLong_3_5 19 rfl rfl)
theorem dJ16_parseLong_3_140 : decode cJ16_parseLong_3 140 = .ok (.iload 7, 2) := dk_21 7 (dk_at dksJ16_parseLong_3_5 22 rfl rfl)
theorem dJ16_parseLong_3_142 : decode cJ16_parseLong_3 142 = .ok (.bipush 43, 2) := dk_16 43 (dk_at dksJ16_parseLong_3_6 0 rfl rfl)
theorem dJ16_parseLong_3_144 : decode cJ16_parseLong_3 144 = .ok (.if_icmp .eq 9, 3) := dk_159 0 9 (dk_at dksJ16_parseLong_3_6 2 rfl rfl)
theorem dJ16_parseLong_3_147 : decode cJ16_parseLong_3 147 = .ok (.aload_n 0, 1) := dk_42 (dk_at dksJ16_parseLong_3_6 5 rfl rfl)
theorem dJ16_parseLong_3_148 : decode cJ16_parseLong_3 148 = .ok (.iload_n 1, 1) := dk_27 (dk_at dksJ16_parseLong_3_6 6 rfl rfl)
theorem dJ16_parseLong_3_149 : decode cJ16_parseLong_3 149 = .ok (.invokestatic 170, 3) := dk_184 0 170 (dk_at dksJ16_parseLong_3_6 7 rfl rfl)
theorem dJ16_parseLong_3_152 : decode cJ16_parseLong_3 152 = .ok (.athrow, 1) := dk_191 (dk_at dksJ16_parseLong_3_6 10 rfl rfl)
theorem dJ16_parseLong_3_153 : decode cJ16_parseLong_3 153 = .ok (.iload 4, 2) := dk_21 4 (dk_at dksJ16_parseLong_3_6 11 rfl rfl)
theorem dJ16_parseLong_3_155 : decode cJ16_parseLong_3 155 = .ok (.iconst 1, 1) := dk_4 (dk_at dksJ16_parseLong_3_6 13 rfl rfl)
theorem dJ16_parseLong_3_156 : decode cJ16_parseLong_3 156 = .ok (.if_icmp .ne 9, 3) := dk_160 0 9 (dk_at dksJ16_parseLong_3_6 14 rfl rfl)
theorem dJ16_parseLong_3_159 : decode cJ16_parseLong_3 159 = .ok (.aload_n 0, 1) := dk_42 (dk_at dksJ16_parseLong_3_6 17 rfl rfl)
theorem dJ16_parseLong_3_160 : decode cJ16_parseLong_3 160 = .ok (.iload_n 1, 1) := dk_27 (dk_at dksJ16_parseLong_3_6 18 rfl rfl)
theorem dJ16_parseLong_3_161 : decode cJ16_parseLong_3 161 = .ok (.invokestatic 170, 3) := dk_184 0 170 (dk_at dksJ16_parseLong_3_6 19 rfl rfl)
theorem dJ16_parseLong_3_164 : decode cJ16_parseLong_3 164 = .ok (.athrow, 1) := dk_191 (dk_at dksJ16_parseLong_3_6 22 rfl rfl)
theorem dJ16_parseLong_3_165 : decode cJ16_parseLong_3 165 = .ok (.iinc 3 1, 3) := dk_132 3 1 (dk_at dksJ16_parseLong_3_7 0 rfl rfl)
theorem dJ16_parseLong_3_168 : decode cJ16_parseLong_3 168 = .ok (.lload 5, 2) := dk_22 5 (dk_at dksJ16_parseLong_3_7 3 rfl rfl)
theorem dJ16_parseLong_3_170 : decode cJ16_parseLong_3 170 = .ok (.iload_n 1, 1) := dk_27 (dk_at dksJ16_parseLong_3_7 5 rfl rfl)
theorem dJ16_parseLong_3_171 : decode cJ16_parseLong_3 171 = .ok (.i2l, 1) := dk_133 (dk_at dksJ16_parseLong_3_7 6 rfl rfl)
theorem dJ16_parseLong_3_172 : decode cJ16_parseLong_3 172 = .ok (.ldiv, 1) := dk_109 (dk_at dksJ16_parseLong_3_7 7 rfl rfl)
theorem dJ16_parseLong_3_173 : decode cJ16_parseLong_3 173 = .ok (.lstore 8, 2) := dk_55 8 (dk_at dksJ16_parseLong_3_7 8 rfl rfl)
theorem dJ16_parseLong_3_175 : decode cJ16_parseLong_3 175 = .ok (.lconst 0, 1) := dk_9 (dk_at dksJ16_parseLong_3_7 10 rfl rfl)
theorem dJ16_parseLong_3_176 : decode cJ16_parseLong_3 176 = .ok (.lstore 10, 2) := dk_55 10 (dk_at dksJ16_parseLong_3_7 11 rfl rfl)
theorem dJ16_parseLong_3_178 : decode cJ16_parseLong_3 178 = .ok (.iload_n 3, 1) := dk_29 (dk_at dksJ16_parseLong_3_7 13 rfl rfl)
theorem dJ16_parseLong_3_179 : decode cJ16_parseLong_3 179 = .ok (.iload 4, 2) := dk_21 4 (dk_at dksJ16_parseLong_3_7 14 rfl rfl)
theorem dJ16_parseLong_3_181 : decode cJ16_parseLong_3 181 = .ok (.if_icmp .ge 72, 3) := dk_162 0 72 (dk_at dksJ16_parseLong_3_7 16 rfl rfl)
theorem dJ16_parseLong_3_184 : decode cJ16_parseLong_3 184 = .ok (.aload_n 0, 1) := dk_42 (dk_at dksJ16_parseLong_3_7 19 rfl rfl)
theorem dJ16_parseLong_3_185 : decode cJ16_parseLong_3 185 = .ok (.iload_n 3, 1) := dk_29 (dk_at dksJ16_parseLong_3_7 20 rfl rfl)
theorem dJ16_parseLong_3_186 : decode cJ16_parseLong_3 186 = .ok (.iinc 3 1, 3) := dk_132 3 1 (dk_at dksJ16_parseLong_3_7 21 rfl rfl)
theorem dJ16_parseLong_3_189 : decode cJ16_parseLong_3 189 = .ok (.invokevirtual 164, 3) := dk_182 0 164 (dk_at dksJ16_parseLong_3_8 0 rfl rfl)
theorem dJ16_parseLong_3_192 : decode cJ16_parseLong_3 192 = .ok (.iload_n 1, 1) := dk_27 (dk_at dksJ16_parseLong_3_8 3 rfl rfl)
theorem dJ16_parseLong_3_193 : decode cJ16_parseLong_3 193 = .ok (.invokestatic 174, 3) := dk_184 0 174 (dk_at dksJ16_parseLong_3_8 4 rfl rfl)
theorem dJ16_parseLong_3_196 : decode cJ16_parseLong_3 196 = .ok (.istore 12, 2) := dk_54 12 (dk_at dksJ16_parseLong_3_8 7 rfl rfl)
theorem dJ16_parseLong_3_198 : decode cJ16_parseLong_3 198 = .ok (.iload 12, 2) := dk_21 12 (dk_at dksJ16_parseLong_3_8 9 rfl rfl)
theorem dJ16_parseLong_3_200 : decode cJ16_parseLong_3 200 = .ok (.ifCond .lt 11, 3) := dk_155 0 11 (dk_at dksJ16_parseLong_3_8 11 rfl rfl)
theorem dJ16_parseLong_3_203 : decode cJ16_parseLong_3 203 = .ok (.lload 10, 2) := dk_22 10 (dk_at dksJ16_parseLong_3_8 14 rfl rfl)
theorem dJ16_parseLong_3_205 : decode cJ16_parseLong_3 205 = .ok (.lload 8, 2) := dk_22 8 (dk_at dksJ16_parseLong_3_8 16 rfl rfl)
theorem dJ16_parseLong_3_207 : decode cJ16_parseLong_3 207 = .ok (.lcmp, 1) := dk_148 (dk_at dksJ16_parseLong_3_8 18 rfl rfl)
theorem dJ16_parseLong_3_208 : decode cJ16_parseLong_3 208 = .ok (.ifCond .ge 9, 3) := dk_156 0 9 (dk_at dksJ16_parseLong_3_8 19 rfl rfl)
theorem dJ16_parseLong_3_211 : decode cJ16_parseLong_3 211 = .ok (.aload_n 0, 1) := dk_42 (dk_at dksJ16_parseLong_3_8 22 rfl rfl)
theorem dJ16_parseLong_3_212 : decode cJ16_parseLong_3 212 = .ok (.iload_n 1, 1) := dk_27 (dk_at dksJ16_parseLong_3_8 23 rfl rfl)
theorem dJ16_parseLong_3_213 : decode cJ16_parseLong_3 213 = .ok (.invokestatic 170, 3) := dk_184 0 170 (dk_at dksJ16_parseLong_3_9 0 rfl rfl)
theorem dJ16_parseLong_3_216 : decode cJ16_parseLong_3 216 = .ok (.athrow, 1) := dk_191 (dk_at dksJ16_parseLong_3_9 3 rfl rfl)
theorem dJ16_parseLong_3_217 : decode cJ16_parseLong_3 217 = .ok (.lload 10, 2) := dk_22 10 (dk_at dksJ16_parseLong_3_9 4 rfl rfl)
theorem dJ16_parseLong_3_219 : decode cJ16_parseLong_3 219 = .ok (.iload_n 1, 1) := dk_27 (dk_at dksJ16_parseLong_3_9 6 rfl rfl)
theorem dJ16_parseLong_3_220 : decode cJ16_parseLong_3 220 = .ok (.i2l, 1) := dk_133 (dk_at dksJ16_parseLong_3_9 7 rfl rfl)
theorem dJ16_parseLong_3_221 : decode cJ16_parseLong_3 221 = .ok (.lmul, 1) := dk_105 (dk_at dksJ16_parseLong_3_9 8 rfl rfl)
theorem dJ16_parseLong_3_222 : decode cJ16_parseLong_3 222 = .ok (.lstore 10, 2) := dk_55 10 (dk_at dksJ16_parseLong_3_9 9 rfl rfl)
theorem dJ16_parseLong_3_224 : decode cJ16_parseLong_3 224 = .ok (.lload 10, 2) := dk_22 10 (dk_at dksJ16_parseLong_3_9 11 rfl rfl)
theorem dJ16_parseLong_3_226 : decode cJ16_parseLong_3 226 = .ok (.lload 5, 2) := dk_22 5 (dk_at dksJ16_parseLong_3_9 13 rfl rfl)
theorem dJ16_parseLong_3_228 : decode cJ16_parseLong_3 228 = .ok (.iload 12, 2) := dk_21 12 (dk_at dksJ16_parseLong_3_9 15 rfl rfl)
theorem dJ16_parseLong_3_230 : decode cJ16_parseLong_3 230 = .ok (.i2l, 1) := dk_133 (dk_at dksJ16_parseLong_3_9 17 rfl rfl)
theorem dJ16_parseLong_3_231 : decode cJ16_parseLong_3 231 = .ok (.ladd, 1) := dk_97 (dk_at dksJ16_parseLong_3_9 18 rfl rfl)
theorem dJ16_parseLong_3_232 : decode cJ16_parseLong_3 232 = .ok (.lcmp, 1) := dk_148 (dk_at dksJ16_parseLong_3_9 19 rfl rfl)
theorem dJ16_parseLong_3_233 : decode cJ16_parseLong_3 233 = .ok (.ifCond .ge 9, 3) := dk_156 0 9 (dk_at dksJ16_parseLong_3_9 20 rfl rfl)
theorem dJ16_parseLong_3_236 : decode cJ16_parseLong_3 236 = .ok (.aload_n 0, 1) := dk_42 (dk_at dksJ16_parseLong_3_9 23 rfl rfl)
theorem dJ16_parseLong_3_237 : decode cJ16_parseLong_3 237 = .ok (.iload_n 1, 1) := dk_27 (dk_at dksJ16_parseLong_3_10 0 rfl rfl)
theorem dJ16_parseLong_3_238 : decode cJ16_parseLong_3 238 = .ok (.invokestatic 170, 3) := dk_184 0 170 (dk_at dksJ16_parseLong_3_10 1 rfl rfl)
theorem dJ16_parseLong_3_241 : decode cJ16_parseLong_3 241 = .ok (.athrow, 1) := dk_191 (dk_at dksJ16_parseLong_3_10 4 rfl rfl)
theorem dJ16_parseLong_3_242 : decode cJ16_parseLong_3 242 = .ok (.lload 10, 2) := dk_22 10 (dk_at dksJ16_parseLong_3_10 5 rfl rfl)
theorem dJ16_parseLong_3_244 : decode cJ16_parseLong_3 244 = .ok (.iload 12, 2) := dk_21 12 (dk_at dksJ16_parseLong_3_10 7 rfl rfl)
theorem dJ16_parseLong_3_246 : decode cJ16_parseLong_3 246 = .ok (.i2l, 1) := dk_133 (dk_at dksJ16_parseLong_3_10 9 rfl rfl)
theorem dJ16_parseLong_3_247 : decode cJ16_parseLong_3 247 = .ok (.lsub, 1) := dk_101 (dk_at dksJ16_parseLong_3_10 10 rfl rfl)
theorem dJ16_parseLong_3_248 : decode cJ16_parseLong_3 248 = .ok (.lstore 10, 2) := dk_55 10 (dk_at dksJ16_parseLong_3_10 11 rfl rfl)
theorem dJ16_parseLong_3_250 : decode cJ16_parseLong_3 250 = .ok (.goto (-72), 3) := dk_167 255 184 (dk_at dksJ16_parseLong_3_10 13 rfl rfl)
theorem dJ16_parseLong_3_253 : decode cJ16_parseLong_3 253 = .ok (.iload_n 2, 1) := dk_28 (dk_at dksJ16_parseLong_3_10 16 rfl rfl)
theorem dJ16_parseLong_3_254 : decode cJ16_parseLong_3 254 = .ok (.ifCond .eq 8, 3) := dk_153 0 8 (dk_at dksJ16_parseLong_3_10 17 rfl rfl)
theorem dJ16_parseLong_3_257 : decode cJ16_parseLong_3 257 = .ok (.lload 10, 2) := dk_22 10 (dk_at dksJ16_parseLong_3_10 20 rfl rfl)
theorem dJ16_parseLong_3_259 : decode cJ16_parseLong_3 259 = .ok (.goto 6, 3) := dk_167 0 6 (dk_at dksJ16_parseLong_3_11 0 rfl rfl)
theorem dJ16_parseLong_3_262 : decode cJ16_parseLong_3 262 = .ok (.lload 10, 2) := dk_22 10 (dk_at dksJ16_parseLong_3_11 3 rfl rfl)
theorem dJ16_parseLong_3_264 : decode cJ16_parseLong_3 264 = .ok (.lneg, 1) := dk_117 (dk_at dksJ16_parseLong_3_11 5 rfl rfl)
theorem dJ16_parseLong_3_265 : decode cJ16_parseLong_3 265 = .ok (.lreturn, 1) := dk_173 (dk_at dksJ16_parseLong_3_11 6 rfl rfl)
theorem dJ16_parseLong_3_266 : decode cJ16_parseLong_3 266 = .ok (.aload_n 0, 1) := dk_42 (dk_at dksJ16_parseLong_3_11 7 rfl rfl)
theorem dJ16_parseLong_3_267 : decode cJ16_parseLong_3 267 = .ok (.iload_n 1, 1) := dk_27 (dk_at dksJ16_parseLong_3_11 8 rfl rfl)
theorem dJ16_parseLong_3_268 : decode cJ16_parseLong_3 268 = .ok (.invokestatic 170, 3) := dk_184 0 170 (dk_at dksJ16_parseLong_3_11 9 rfl rfl)
theorem dJ16_parseLong_3_271 : decode cJ16_parseLong_3 271 = .ok (.athrow, 1) := dk_191 (dk_at dksJ16_parseLong_3_11 12 rfl rfl)
def dkwJ16_parseLong_2_0 : List UInt8 := [42, 16, 10, 184, 0, 198, 173]
abbrev dktJ16_parseLong_2_0 : List UInt8 := dkwJ16_parseLong_2_0 ++ []
theorem dksJ16_parseLong_2_0 : cJ16_parseLong_2.data.toList.drop 0 = dktJ16_parseLong_2_0 := by decide +kernel
theorem dJ16_parseLong_2_0 : decode cJ16_parseLong_2 0 = .ok (.aload_n 0, 1) := dk_42 (dk_at dksJ16_parseLong_2_0 0 rfl rfl)
theorem dJ16_parseLong_2_1 : decode cJ16_parseLong_2 1 = .ok (.bipush 10, 2) := dk_16 10 (dk_at dksJ16_parseLong_2_0 1 rfl rfl)
theorem dJ16_parseLong_2_3 : decode cJ16_parseLong_2 3 = .ok (.invokestatic 198, 3) := dk_184 0 198 (dk_at dksJ16_parseLong_2_0 3 rfl rfl)
theorem dJ16_parseLong_2_6 : decode cJ16_parseLong_2 6 = .ok (.lreturn, 1) := dk_173 (dk_at dksJ16_parseLong_2_0 6 rfl rfl)
def dkwJ16_parseLong_12 : List UInt8 := [22, 11, 167, 0, 6, 22, 11, 117, 173, 187, 0, 142, 89, 18, 196, 183, 0, 146, 191]
abbrev dktJ16_parseLong_12 : List UInt8 := dkwJ16_parseLong_12 ++ []
def dkwJ16_parseLong_11 : List UInt8 := [184, 0, 192, 191, 132, 5, 1, 22, 11, 21, 13, 133, 101, 55, 11, 167, 255, 175, 21, 4, 153, 0, 8]
abbrev dktJ16_parseLong_11 : List UInt8 := dkwJ16_parseLong_11 ++ dktJ16_parseLong_12
def dkwJ16_parseLong_10 : List UInt8 := [22, 11, 29, 133, 105, 55, 11, 22, 11, 22, 6, 21, 13, 133, 97, 148, 156, 0, 12, 42, 27, 28, 21, 5]
abbrev dktJ16_parseLong_10 : List UInt8 := dkwJ16_parseLong_10 ++ dktJ16_parseLong_11
def dkwJ16_parseLong_9 : List UInt8 := [54, 13, 21, 13, 155, 0, 11, 22, 11, 22, 9, 148, 156, 0, 12, 42, 27, 28, 21, 5, 184, 0, 192, 191]
abbrev dktJ16_parseLong_9 : List UInt8 := dkwJ16_parseLong_9 ++ dktJ16_parseLong_10
def dkwJ16_parseLong_8 : List UInt8 := [55, 9, 9, 55, 11, 21, 5, 28, 162, 0, 81, 42, 21, 5, 185, 0, 191, 2, 0, 29, 184, 0, 174]
abbrev dktJ16_parseLong_8 : List UInt8 := dkwJ16_parseLong_8 ++ dktJ16_parseLong_9
def dkwJ16_parseLong_7 : List UInt8 := [132, 5, 1, 21, 5, 28, 161, 0, 12, 42, 27, 28, 21, 5, 184, 0, 192, 191, 22, 6, 29, 133, 109]
abbrev dktJ16_parseLong_7 : List UInt8 := dkwJ16_parseLong_7 ++ dktJ16_parseLong_8
def dkwJ16_parseLong_6 : List UInt8 := [20, 0, 168, 55, 6, 167, 0, 19, 21, 8, 16, 43, 159, 0, 12, 42, 27, 28, 21, 5, 184, 0, 192, 191]
abbrev dktJ16_parseLong_6 : List UInt8 := dkwJ16_parseLong_6 ++ dktJ16_parseLong_7
def dkwJ16_parseLong_5 : List UInt8 := [185, 0, 191, 2, 0, 54, 8, 21, 8, 16, 48, 162, 0, 40, 21, 8, 16, 45, 160, 0, 14, 4, 54, 4]
abbrev dktJ16_parseLong_5 : List UInt8 := dkwJ16_parseLong_5 ++ dktJ16_parseLong_6
def dkwJ16_parseLong_4 : List UInt8 := [3, 54, 4, 27, 54, 5, 20, 0, 162, 55, 6, 21, 5, 28, 162, 0, 180, 42, 21, 5]
abbrev dktJ16_parseLong_4 : List UInt8 := dkwJ16_parseLong_4 ++ dktJ16_parseLong_5
def dkwJ16_parseLong_3 : List UInt8 := [183, 0, 57, 18, 149, 182, 0, 61, 29, 182, 0, 151, 18, 156, 182, 0, 61, 182, 0, 68, 183, 0, 146, 191]
abbrev dktJ16_parseLong_3 : List UInt8 := dkwJ16_parseLong_3 ++ dktJ16_parseLong_4
def dkwJ16_parseLong_2 : List UInt8 := [182, 0, 61, 182, 0, 68, 183, 0, 146, 191, 29, 16, 36, 164, 0, 35, 187, 0, 142, 89, 187, 0, 55, 89]
abbrev dktJ16_parseLong_2 : List UInt8 := dkwJ16_parseLong_2 ++ dktJ16_parseLong_3
def dkwJ16_parseLong_1 : List UInt8 := [187, 0, 142, 89, 187, 0, 55, 89, 183, 0, 57, 18, 149, 182, 0, 61, 29, 182, 0, 151, 18, 154]
abbrev dktJ16_parseLong_1 : List UInt8 := dkwJ16_parseLong_1 ++ dktJ16_parseLong_2
def dkwJ16_parseLong_0 : List UInt8 := [42, 184, 0, 178, 87, 27, 28, 42, 185, 0, 184, 1, 0, 184, 0, 187, 87, 29, 5, 162, 0, 35]
abbrev dktJ16_parseLong_0 : List UInt8 := dkwJ16_parseLong_0 ++ dktJ16_parseLong_1
theorem dksJ16_parseLong_0 : cJ16_parseLong.data.toList.drop 0 = dktJ16_parseLong_0 := by decide +kernel
theorem dksJ16_parseLong_1 : cJ16_parseLong.data.toList.drop 22 = dktJ16_parseLong_1 := dk_seg dksJ16_parseLong_0 22 rfl rfl
theorem dksJ16_parseLong_2 : cJ16_parseLong.data.toList.drop 44 = dktJ16_parseLong_2 := dk_seg dksJ16_parseLong_1 22 rfl rfl
theorem dksJ16_parseLong_3 : cJ16_parseLong.data.toList.drop 68 = dktJ16_parseLong_3 := dk_seg dksJ16_parseLong_2 24 rfl rfl
theorem dksJ16_parseLong_4 : cJ16_parseLong.data.toList.drop 92 = dktJ16_parseLong_4 := dk_seg dksJ16_parseLong_3 24 rfl rfl
theorem dksJ16_parseLong_5 : cJ16_parseLong.data.toList.drop 112 = dktJ16_parseLong_5 := dk_seg dksJ16_parseLong_4 20 rfl rfl
theorem dksJ16_parseLong_6 : cJ16_parseLong.data.toList.drop 136 = dktJ16_parseLong_6 := dk_seg dksJ16_parseLong_5 24 rfl rfl
theorem dksJ16_parseLong_7 : cJ16_parseLong.data.toList.drop 160 = dktJ16_parseLong_7 := dk_seg dksJ16_parseLong_6 24 rfl rfl
theorem dksJ16_parseLong_8 : cJ16_parseLong.data.toList.drop 183 = dktJ16_parseLong_8 := dk_seg dksJ16_parseLong_7 23 rfl rfl
theorem dksJ16_parseLong_9 : cJ16_parseLong.data.toList.drop 206 = dktJ16_parseLong_9 := dk_seg dksJ16_parseLong_8 23 rfl rfl
theorem dksJ16_parseLong_10 : cJ16_parseLong.data.toList.drop 230 = dktJ16_parseLong_10 := dk_seg dksJ16_parseLong_9 24 rfl rfl
theorem dksJ16_parseLong_11 : cJ16_parseLong.data.toList.drop 254 = dktJ16_parseLong_11 := dk_seg dksJ16_parseLong_10 24 rfl rfl
theorem dksJ16_parseLong_12 : cJ16_parseLong.data.toList.drop 277 = dktJ16_parseLong_12 := dk_seg dksJ16_parseLong_11 23 rfl rfl
theorem dJ16_parseLong_0 : decode cJ16_parseLong 0 = .ok (.aload_n 0, 1) := dk_42 (dk_at dksJ16_parseLong_0 0 rfl rfl)
theorem dJ16_parseLong_1 : decode cJ16_parseLong 1 = .ok (.invokestatic 178, 3) := dk_184 0 178 (dk_at dksJ16_parseLong_0 1 rfl rfl)
theorem dJ16_parseLong_4 : decode cJ16_parseLong 4 = .ok (.pop, 1) := dk_87 (dk_at dksJ16_parseLong_0 4 rfl rfl)
theorem dJ16_parseLong_5 : decode cJ16_parseLong 5 = .ok (.iload_n 1, 1) := dk_27 (dk_at dksJ16_parseLong_0 5 rfl rfl)
theorem dJ16_parseLong_6 : decode cJ16_parseLong 6 = .ok (.iload_n 2, 1) := dk_28 (dk_at dksJ16_parseLong_0 6 rfl rfl)
theorem dJ16_parseLong_7 : decode cJ16_parseLong 7 = .ok (.aload_n 0, 1) := dk_42 (dk_at dksJ16_parseLong_0 7 rfl rfl)
theorem dJ16_parseLong_8 : decode cJ16_parseLong 8 = .ok (.invokeinterface 184 1, 5) := by decide +kernel
theorem dJ16_parseLong_13 : decode cJ16_parseLong 13 = .ok (.invokestatic 187, 3) := dk_184 0 187 (dk_at dksJ16_parseLong_0 13 rfl rfl)
theorem dJ16_parseLong_16 : decode cJ16_parseLong 16 = .ok (.pop, 1) := dk_87 (dk_at dksJ16_parseLong_0 16 rfl rfl)
theorem dJ16_parseLong_17 : decode cJ16_parseLong 17 = .ok (.iload_n 3, 1) := dk_29 (dk_at dksJ16_parseLong_0 17 rfl rfl)
theorem dJ16_parseLong_18 : decode cJ16_parseLong 18 = .ok (.iconst 2, 1) := dk_5 (dk_at dksJ16_parseLong_0 18 rfl rfl)
theorem dJ16_parseLong_19 : decode cJ16_parseLong 19 = .ok (.if_icmp .ge 35, 3) := dk_162 0 35 (dk_at dksJ16_parseLong_0 19 rfl rfl)
theorem dJ16_parseLong_22 : decode cJ16_parseLong 22 = .ok (.new 142, 3) := dk_187 0 142 (dk_at dksJ16_parseLong_1 0 rfl rfl)
theorem dJ16_parseLong_25 : decode cJ16_parseLong 25 = .ok (.dup, 1) := dk_89 (dk_at dksJ16_parseLong_1 3 rfl rfl)
theorem dJ16_parseLong_26 : decode cJ16_parseLong 26 = .ok (.new 55, 3) := dk_187 0 55 (dk_at dksJ16_parseLong_1 4 rfl rfl)
theorem dJ16_parseLong_29 : decode cJ16_parseLong 29 = .ok (.dup, 1) := dk_89 (dk_at dksJ16_parseLong_1 7 rfl rfl)
theorem dJ16_parseLong_30 : decode cJ16_parseLong 30 = .ok (.invokespecial 57, 3) := dk_183 0 57 (dk_at dksJ16_parseLong_1 8 rfl rfl)
theorem dJ16_parseLong_33 : decode cJ16_parseLong 33 = .ok (.ldc 149, 2) := dk_18 149 (dk_at dksJ16_parseLong_1 11 rfl rfl)
theorem dJ16_parseLong_35 : decode cJ16_parseLong 35 = .ok (.invokevirtual 61, 3) := dk_182 0 61 (dk_at dksJ16_parseLong_1 13 rfl rfl)
theorem dJ16_parseLong_38 : decode cJ16_parseLong 38 = .ok (.iload_n 3, 1) := dk_29 (dk_at dksJ16_parseLong_1 16 rfl rfl)
theorem dJ16_parseLong_39 : decode cJ16_parseLong 39 = .ok (.invokevirtual 151, 3) := dk_182 0 151 (dk_at dksJ16_parseLong_1 17 rfl rfl)
theorem dJ16_parseLong_42 : decode cJ16_parseLong 42 = .ok (.ldc 154, 2) := dk_18 154 (dk_at dksJ16_parseLong_1 20 rfl rfl)
theorem dJ16_parseLong_44 : decode cJ16_parseLong 44 = .ok (.invokevirtual 61, 3) := dk_182 0 61 (dk_at dksJ16_parseLong_2 0 rfl rfl)
theorem dJ16_parseLong_47 : decode cJ16_parseLong 47 = .ok (.invokevirtual 68, 3) := dk_182 0 68 (dk_at dksJ16_parseLong_2 3 rfl rfl)
theorem dJ16_parseLong_50 : decode cJ16_parseLong 50 = .ok (.invokespecial 146, 3) := dk_183 0 146 (dk_at dksJ16_parseLong_2 6 rfl rfl)
theorem dJ16_parseLong_53 : decode cJ16_parseLong 53 = .ok (.athrow, 1) := dk_191 (dk_at dksJ16_parseLong_2 9 rfl rfl)
theorem dJ16_parseLong_54 : decode cJ16_parseLong 54 = .ok (.iload_n 3, 1) := dk_29 (dk_at dksJ16_parseLong_2 10 rfl rfl)
theorem dJ16_parseLong_55 : decode cJ16_parseLong 55 = .ok (.bipush 36, 2) := dk_16 36 (dk_at dksJ16_parseLong_2 11 rfl rfl)
theorem dJ16_parseLong_57 : decode cJ16_parseLong 57 = .ok (.if_icmp .le 35, 3) := dk_164 0 35 (dk_at dksJ16_parseLong_2 13 rfl rfl)
theorem dJ16_parseLong_60 : decode cJ16_parseLong 60 = .ok (.new 142, 3) := dk_187 0 142 (dk_at dksJ16_parseLong_2 16 rfl rfl)
theorem dJ16_parseLong_63 : decode cJ16_parseLong 63 = .ok (.dup, 1) := dk_89 (dk_at dksJ16_parseLong_2 19 rfl rfl)
theorem dJ16_parseLong_64 : decode cJ16_parseLong 64 = .ok (.new 55, 3) := dk_187 0 55 (dk_at dksJ16_parseLong_2 20 rfl rfl)
theorem dJ16_parseLong_67 : decode cJ16_parseLong 67 = .ok (.dup, 1) := dk_89 (dk_at dksJ16_parseLong_2 23 rfl rfl)
theorem dJ16_parseLong_68 : decode cJ16_parseLong 68 = .ok (.invokespecial 57, 3) := dk_183 0 57 (dk_at dksJ16_parseLong_3 0 rfl rfl)
theorem dJ16_parseLong_71 : decode cJ16_parseLong 71 = .ok (.ldc 149, 2) := dk_18 149 (dk_at dksJ16_parseLong_3 3 rfl rfl)
theorem dJ16_parseLong_73 : decode cJ16_parseLong 73 = .ok (.invokevirtual 61, 3) := dk_182 0 61 (dk_at dksJ16_parseLong_3 5 rfl rfl)
theorem dJ16_parseLong_76 : decode cJ16_parseLong 76 = .ok (.iload_n 3, 1) := dk_29 (dk_at dksJ16_parseLong_3 8 rfl rfl)
theorem dJ16_parseLong_77 : decode cJ16_parseLong 77 = .ok (.invokevirtual 151, 3) := dk_182 0 151 (dk_at dksJ16_parseLong_3 9 rfl rfl)
theorem dJ16_parseLong_80 : decode cJ16_parseLong 80 = .ok (.ldc 156, 2) := dk_18 156 (dk_at dksJ16_parseLong_3 12 rfl rfl)
theorem dJ16_parseLong_82 : decode cJ16_parseLong 82 = .ok (.invokevirtual 61, 3) := dk_182 0 61 (dk_at dksJ16_parseLong_3 14 rfl rfl)
theorem dJ16_parseLong_85 : decode cJ16_parseLong 85 = .ok (.invokevirtual 68, 3) := dk_182 0 68 (dk_at dksJ16_parseLong_3 17 rfl rfl)
theorem dJ16_parseLong_88 : decode cJ16_parseLong 88 = .ok (.invokespecial 146, 3) := dk_183 0 146 (dk_at dksJ16_parseLong_3 20 rfl rfl)
theorem dJ16_parseLong_91 : decode cJ16_parseLong 91 = .ok (.athrow, 1) := dk_191 (dk_at dksJ16_parseLong_3 23 rfl rfl)
theorem dJ16_parseLong_92 : decode cJ16_parseLong 92 = .ok (.iconst 0, 1) := dk_3 (dk_at dksJ16_parseLong_4 0 rfl rfl)
theorem dJ16_parseLong_93 : decode cJ16_parseLong 93 = .ok (.istore 4, 2) := dk_54 4 (dk_at dksJ16_parseLong_4 1 rfl rfl)
theorem dJ16_parseLong_95 : decode cJ16_parseLong 95 = .ok (.iload_n 1, 1) := dk_27 (dk_at dksJ16_parseLong_4 3 rfl rfl)
theorem dJ16_parseLong_96 : decode cJ16_parseLong 96 = .ok (.istore 5, 2) := dk_54 5 (dk_at dksJ16_parseLong_4 4 rfl rfl)
theorem dJ16_parseLong_98 : decode cJ16_parseLong 98 = .ok (.ldc2_w 162, 3) := dk_20 0 162 (dk_at dksJ16_parseLong_4 6 rfl rfl)
theorem dJ16_parseLong_101 : decode cJ16_parseLong 101 = .ok (.lstore 6, 2) := dk_55 6 (dk_at dksJ16_parseLong_4 9 rfl rfl)
theorem dJ16_parseLong_103 : decode cJ16_parseLong 103 = .ok (.iload 5, 2) := dk_21 5 (dk_at dksJ16_parseLong_4 11 rfl rfl)
theorem dJ16_parseLong_105 : decode cJ16_parseLong 105 = .ok (.iload_n 2, 1) := dk_28 (dk_at dksJ16_parseLong_4 13 rfl rfl)
theorem dJ16_parseLong_106 : decode cJ16_parseLong 106 = .ok (.if_icmp .ge 180, 3) := dk_162 0 180 (dk_at dksJ16_parseLong_4 14 rfl rfl)
theorem dJ16_parseLong_109 : decode cJ16_parseLong 109 = .ok (.aload_n 0, 1) := dk_42 (dk_at dksJ16_parseLong_4 17 rfl rfl)
theorem dJ16_parseLong_110 : decode cJ16_parseLong 110 = .ok (.iload 5, 2) := dk_21 5 (dk_at dksJ16_parseLong_4 18 rfl rfl)
theorem dJ16_parseLong_112 : decode cJ16_parseLong 112 = .ok (.invokeinterface 191 2, 5) := by decide +kernel
theorem dJ16_parseLong_117 : decode cJ16_parseLong 117 = .ok (.istore 8, 2) := dk_54 8 (dk_at dksJ16_parseLong_5 5 rfl rfl)
theorem dJ16_parseLong_119 : decode cJ16_parseLong 119 = .ok (.iload 8, 2) := dk_21 8 (dk_at dksJ16_parseLong_5 7 rfl rfl)
theorem dJ16_parseLong_121 : decode cJ16_parseLong 121 = .ok (.bipush 48, 2) := dk_16 48 (dk_at dksJ16_parseLong_5 9 rfl rfl)
theorem dJ16_parseLong_123 : decode cJ16_parseLong 123 = .ok (.if_icmp .ge 40, 3) := dk_162 0 40 (dk_at dksJ16_parseLong_5 11 rfl rfl)
theorem dJ16_parseLong_126 : decode cJ16_parseLong 126 = .ok (.iload 8, 2) := dk_21 8 (dk_at dksJ16_parseLong_5 14 rfl rfl)
theorem dJ16_parseLong_128 : decode cJ16_parseLong 128 = .ok (.bipush 45, 2) := dk_16 45 (dk_at dksJ16_parseLong_5 16 rfl rfl)
theorem dJ16_parseLong_130 : decode cJ16_parseLong 130 = .ok (.if_icmp .ne 14, 3) := dk_160 0 14 (dk_at dksJ16_parseLong_5 18 rfl rfl)
theorem dJ16_parseLong_133 : decode cJ16_parseLong 133 = .ok (.iconst 1, 1) := dk_4 (dk_at dksJ16_parseLong_5 21 rfl rfl)
theorem dJ16_parseLong_134 : decode cJ16_parseLong 134 = .ok (.istore 4, 2) := dk_54 4 (dk_at dksJ16_parseLong_5 22 rfl rfl)
theorem dJ16_parseLong_136 : decode cJ16_parseLong 136 = .ok (.ldc2_w 168, 3) := dk_20 0 168 (dk_at dksJ16_parseLong_6 0 rfl rfl)
theorem dJ16_parseLong_139 : decode cJ16_parseLong 139 = .ok (.lstore 6, 2) := dk_55 6 (dk_at dksJ16_parseLong_6 3 rfl rfl)
theorem dJ16_parseLong_141 : decode cJ16_parseLong 141 = .ok (.goto 19, 3) := dk_167 0 19 (dk_at dksJ16_parseLong_6 5 rfl rfl)
theorem dJ16_parseLong_144 : decode cJ16_parseLong 144 = .ok (.iload 8, 2) := dk_21 8 (dk_at dksJ16_parseLong_6 8 rfl rfl)
theorem dJ16_parseLong_146 : decode cJ16_parseLong 146 = .ok (.bipush 43, 2) := dk_16 43 (dk_at dksJ16_parseLong_6 10 rfl rfl)
theorem dJ16_parseLong_148 : decode cJ16_parseLong 148 = .ok (.if_icmp .eq 12, 3) := dk_159 0 12 (dk_at dksJ16_parseLong_6 12 rfl rfl)
theorem dJ16_parseLong_151 : decode cJ16_parseLong 151 = .ok (.aload_n 0, 1) := dk_42 (dk_at dksJ16_parseLong_6 15 rfl rfl)
theorem dJ16_parseLong_152 : decode cJ16_parseLong 152 = .ok (.iload_n 1, 1) := dk_27 (dk_at dksJ16_parseLong_6 16 rfl rfl)
theorem dJ16_parseLong_153 : decode cJ16_parseLong 153 = .ok (.iload_n 2, 1) := dk_28 (dk_at dksJ16_parseLong_6 17 rfl rfl)
theorem dJ16_parseLong_154 : decode cJ16_parseLong 154 = .ok (.iload 5, 2) := dk_21 5 (dk_at dksJ16_parseLong_6 18 rfl rfl)
theorem dJ16_parseLong_156 : decode cJ16_parseLong 156 = .ok (.invokestatic 192, 3) := dk_184 0 192 (dk_at dksJ16_parseLong_6 20 rfl rfl)
theorem dJ16_parseLong_159 : decode cJ16_parseLong 159 = .ok (.athrow, 1) := dk_191 (dk_at dksJ16_parseLong_6 23 rfl rfl)
theorem dJ16_parseLong_160 : decode cJ16_parseLong 160 = .ok (.iinc 5 1, 3) := dk_132 5 1 (dk_at dksJ16_parseLong_7 0 rfl rfl)
theorem dJ16_parseLong_163 : decode cJ16_parseLong 163 = .ok (.iload 5, 2) := dk_21 5 (dk_at dksJ16_parseLong_7 3 rfl rfl)
theorem dJ16_parseLong_165 : decode cJ16_parseLong 165 = .ok (.iload_n 2, 1) := dk_28 (dk_at dksJ16_parseLong_7 5 rfl rfl)
theorem dJ16_parseLong_166 : decode cJ16_parseLong 166 = .ok (.if_icmp .lt 12, 3) := dk_161 0 12 (dk_at dksJ16_parseLong_7 6 rfl rfl)
theorem dJ16_parseLong_169 : decode cJ16_parseLong 169 = .ok (.aload_n 0, 1) := dk_42 (dk_at dksJ16_parseLong_7 9 rfl rfl)
theorem dJ16_parseLong_170 : decode cJ16_parseLong 170 = .ok (.iload_n 1, 1) := dk_27 (dk_at dksJ16_parseLong_7 10 rfl rfl)
theorem dJ16_parseLong_171 : decode cJ16_parseLong 171 = .ok (.iload_n 2, 1) := dk_28 (dk_at dksJ16_parseLong_7 11 rfl rfl)
theorem dJ16_parseLong_172 : decode cJ16_parseLong 172 = .ok (.iload 5, 2) := dk_21 5 (dk_at dksJ16_parseLong_7 12 rfl rfl)
theorem dJ16_parseLong_174 : decode cJ16_parseLong 174 = .ok (.invokestatic 192, 3) := dk_184 0 192 (dk_at dksJ16_parseLong_7 14 rfl rfl)
theorem dJ16_parseLong_177 : decode cJ16_parseLong 177 = .ok (.athrow, 1) := dk_191 (dk_at dksJ16_parseLong_7 17 rfl rfl)
theorem dJ16_parseLong_178 : decode cJ16_parseLong 178 = .ok (.lload 6, 2) := dk_22 6 (dk_at dksJ16_parseLong_7 18 rfl rfl)
theorem dJ16_parseLong_180 : decode cJ16_parseLong 180 = .ok (.iload_n 3, 1) := dk_29 (dk_at dksJ16_parseLong_7 20 rfl rfl)
theorem dJ16_parseLong_181 : decode cJ16_parseLong 181 = .ok (.i2l, 1) := dk_133 (dk_at dksJ16_parseLong_7 21 rfl rfl)
theorem dJ16_parseLong_182 : decode cJ16_parseLong 182 = .ok (.ldiv, 1) := dk_109 (dk_at dksJ16_parseLong_7 22 rfl rfl)
theorem dJ16_parseLong_183 : decode cJ16_parseLong 183 = .ok (.lstore 9, 2) := dk_55 9 (dk_at dksJ16_parseLong_8 0 rfl rfl)
theorem dJ16_parseLong_185 : decode cJ16_parseLong 185 = .ok (.lconst 0, 1) := dk_9 (dk_at dksJ16_parseLong_8 2 rfl rfl)
theorem dJ16_parseLong_186 : decode cJ16_parseLong 186 = .ok (.lstore 11, 2) := dk_55 11 (dk_at dksJ16_parseLong_8 3 rfl rfl)
theorem dJ16_parseLong_188 : decode cJ16_parseLong 188 = .ok (.iload 5, 2) := dk_21 5 (dk_at dksJ16_parseLong_8 5 rfl rfl)
theorem dJ16_parseLong_190 : decode cJ16_parseLong 190 = .ok (.iload_n 2, 1) := dk_28 (dk_at dksJ16_parseLong_8 7 rfl rfl)
theorem dJ16_parseLong_191 : decode cJ16_parseLong 191 = .ok (.if_icmp .ge 81, 3) := dk_162 0 81 (dk_at dksJ16_parseLong_8 8 rfl rfl)
theorem dJ16_parseLong_194 : decode cJ16_parseLong 194 = .ok (.aload_n 0, 1) := dk_42 (dk_at dksJ16_parseLong_8 11 rfl rfl)
theorem dJ16_parseLong_195 : decode cJ16_parseLong 195 = .ok (.iload 5, 2) := dk_21 5 (dk_at dksJ16_parseLong_8 12 rfl rfl)
theorem dJ16_parseLong_197 : decode cJ16_parseLong 197 = .ok (.invokeinterface 191 2, 5) := by decide +kernel
theorem dJ16_parseLong_202 : decode cJ16_parseLong 202 = .ok (.iload_n 3, 1) := dk_29 (dk_at dksJ16_parseLong_8 19 rfl rfl)
theorem dJ16_parseLong_203 : decode cJ16_parseLong 203 = .ok (.invokestatic 174, 3) := dk_184 0 174 (dk_at dksJ16_parseLong_8 20 rfl rfl)
theorem dJ16_parseLong_206 : decode cJ16_parseLong 206 = .ok (.istore 13, 2) := dk_54 13 (dk_at dksJ16_parseLong_9 0 rfl rfl)
theorem dJ16_parseLong_208 : decode cJ16_parseLong 208 = .ok (.iload 13, 2) := dk_21 13 (dk_at dksJ16_parseLong_9 2 rfl rfl)
theorem dJ16_parseLong_210 : decode cJ16_parseLong 210 = .ok (.ifCond .lt 11, 3) := dk_155 0 11 (dk_at dksJ16_parseLong_9 4 rfl rfl)
theorem dJ16_parseLong_213 : decode cJ16_parseLong 213 = .ok (.lload 11, 2) := dk_22 11 (dk_at dksJ16_parseLong_9 7 rfl rfl)
theorem dJ16_parseLong_215 : decode cJ16_parseLong 215 = .ok (.lload 9, 2) := dk_22 9 (dk_at dksJ16_parseLong_9 9 rfl rfl)
theorem dJ16_parseLong_217 : decode cJ16_parseLong 217 = .ok (.lcmp, 1) := dk_148 (dk_at dksJ16_parseLong_9 11 rfl rfl)
theorem dJ16_parseLong_218 : decode cJ16_parseLong 218 = .ok (.ifCond .ge 12, 3) := dk_156 0 12 (dk_at dksJ16_parseLong_9 12 rfl rfl)
theorem dJ16_parseLong_221 : decode cJ16_parseLong 221 = .ok (.aload_n 0, 1) := dk_42 (dk_at dksJ16_parseLong_9 15 rfl rfl)
theorem dJ16_parseLong_222 : decode cJ16_parseLong 222 = .ok (.iload_n 1, 1) := dk_27 (dk_at dksJ16_parseLong_9 16 rfl rfl)
theorem dJ16_parseLong_223 : decode cJ16_parseLong 223 = .ok (.iload_n 2, 1) := dk_28 (dk_at dksJ16_parseLong_9 17 rfl rfl)
theorem dJ16_parseLong_224 : decode cJ16_parseLong 224 = .ok (.iload 5, 2) := dk_21 5 (dk_at dksJ16_parseLong_9 18 rfl rfl)
theorem dJ16_parseLong_226 : decode cJ16_parseLong 226 = .ok (.invokestatic 192, 3) := dk_184 0 192 (dk_at dksJ16_parseLong_9 20 rfl rfl)
theorem dJ16_parseLong_229 : decode cJ16_parseLong 229 = .ok (.athrow, 1) := dk_191 (dk_at dksJ16_parseLong_9 23 rfl rfl)
theorem dJ16_parseLong_230 : decode cJ16_parseLong 230 = .ok (.lload 11, 2) := dk_22 11 (dk_at dksJ16_parseLong_10 0 rfl rfl)
theorem dJ16_parseLong_232 : decode cJ16_parseLong 232 = .ok (.iload_n 3, 1) := dk_29 (dk_at dksJ16_parseLong_10 2 rfl rfl)
theorem dJ16_parseLong_233 : decode cJ16_parseLong 233 = .ok (.i2l, 1) := dk_133 (dk_at dksJ16_parseLong_10 3 rfl rfl)
theorem dJ16_parseLong_234 : decode cJ16_parseLong 234 = .ok (.lmul, 1) := dk_105 (dk_at dksJ16_parseLong_10 4 rfl rfl)
theorem dJ16_parseLong_235 : decode cJ16_parseLong 235 = .ok (.lstore 11, 2) := dk_55 11 (dk_at dksJ16_parseLong_10 5 rfl rfl)
theorem dJ16_parseLong_237 : decode cJ16_parseLong 237 = .ok (.lload 11, 2) := dk_22 11 (dk_at dksJ16_parseLong_10 7 rfl rfl)
theorem dJ16_parseLong_239 : decode cJ16_parseLong 239 = .ok (.lload 6, 2) := dk_22 6 (dk_at dksJ16_parseLong_10 9 rfl rfl)
theorem dJ16_parseLong_241 : decode cJ16_parseLong 241 = .ok (.iload 13, 2) := dk_21 13 (dk_at dksJ16_parseLong_10 11 rfl rfl)
theorem dJ16_parseLong_243 : decode cJ16_parseLong 243 = .ok (.i2l, 1) := dk_133 (dk_at dksJ16_parseLong_10 13 rfl rfl)
theorem dJ16_parseLong_244 : decode cJ16_parseLong 244 = .ok (.ladd, 1) := dk_97 (dk_at dksJ16_parseLong_10 14 rfl rfl)
theorem dJ16_parseLong_245 : decode cJ16_parseLong 245 = .ok (.lcmp, 1) := dk_148 (dk_at dksJ16_parseLong_10 15 rfl rfl)
theorem dJ16_parseLong_246 : decode cJ16_parseLong 246 = .ok (.ifCond .ge 12, 3) := dk_156 0 12 (dk_at dksJ16_parseLong_10 16 rfl rfl)
theorem dJ16_parseLong_249 : decode cJ16_parseLong 249 = .ok (.aload_n 0, 1) := dk_42 (dk_at dksJ16_parseLong_10 19 rfl rfl)
theorem dJ16_parseLong_250 : decode cJ16_parseLong 250 = .ok (.iload_n 1, 1) := dk_27 (dk_at dksJ16_parseLong_10 20 rfl rfl)
theorem dJ16_parseLong_251 : decode cJ16_parseLong 251 = .ok (.iload_n 2, 1) := dk_28 (dk_at dksJ16_parseLong_10 21 rfl rfl)
theorem dJ16_parseLong_252 : decode cJ16_parseLong 252 = .ok (.iload 5, 2) := dk_21 5 (dk_at dksJ16_parseLong_10 22 rfl rfl)
theorem dJ16_parseLong_254 : decode cJ16_parseLong 254 = .ok (.invokestatic 192, 3) := dk_184 0 192 (dk_at dksJ16_parseLong_11 0 rfl rfl)
theorem dJ16_parseLong_257 : decode cJ16_parseLong 257 = .ok (.athrow, 1) := dk_191 (dk_at dksJ16_parseLong_11 3 rfl rfl)
theorem dJ16_parseLong_258 : decode cJ16_parseLong 258 = .ok (.iinc 5 1, 3) := dk_132 5 1 (dk_at dksJ16_parseLong_11 4 rfl rfl)
theorem dJ16_parseLong_261 : decode cJ16_parseLong 261 = .ok (.lload 11, 2) := dk_22 11 (dk_at dksJ16_parseLong_11 7 rfl rfl)
theorem dJ16_parseLong_263 : decode cJ16_parseLong 263 = .ok (.iload 13, 2) := dk_21 13 (dk_at dksJ16_parseLong_11 9 rfl rfl)
theorem dJ16_parseLong_265 : decode cJ16_parseLong 265 = .ok (.i2l, 1) := dk_133 (dk_at dksJ16_parseLong_11 11 rfl rfl)
theorem dJ16_parseLong_266 : decode cJ16_parseLong 266 = .ok (.lsub, 1) := dk_101 (dk_at dksJ16_parseLong_11 12 rfl rfl)
theorem dJ16_parseLong_267 : decode cJ16_parseLong 267 = .ok (.lstore 11, 2) := dk_55 11 (dk_at dksJ16_parseLong_11 13 rfl rfl)
theorem dJ16_parseLong_269 : decode cJ16_parseLong 269 = .ok (.goto (-81), 3) := dk_167 255 175 (dk_at dksJ16_parseLong_11 15 rfl rfl)
theorem dJ16_parseLong_272 : decode cJ16_parseLong 272 = .ok (.iload 4, 2) := dk_21 4 (dk_at dksJ16_parseLong_11 18 rfl rfl)
theorem dJ16_parseLong_274 : decode cJ16_parseLong 274 = .ok (.ifCond .eq 8, 3) := dk_153 0 8 (dk_at dksJ16_parseLong_11 20 rfl rfl)
theorem dJ16_parseLong_277 : decode cJ16_parseLong 277 = .ok (.lload 11, 2) := dk_22 11 (dk_at dksJ16_parseLong_12 0 rfl rfl)
theorem dJ16_parseLong_279 : decode cJ16_parseLong 279 = .ok (.goto 6, 3) := dk_167 0 6 (dk_at dksJ16_parseLong_12 2 rfl rfl)
theorem dJ16_parseLong_282 : decode cJ16_parseLong 282 = .ok (.lload 11, 2) := dk_22 11 (dk_at dksJ16_parseLong_12 5 rfl rfl)
theorem dJ16_parseLong_284 : decode cJ16_parseLong 284 = .ok (.lneg, 1) := dk_117 (dk_at dksJ16_parseLong_12 7 rfl rfl)
theorem dJ16_parseLong_285 : decode cJ16_parseLong 285 = .ok (.lreturn, 1) := dk_173 (dk_at dksJ16_parseLong_12 8 rfl rfl)
theorem dJ16_parseLong_286 : decode cJ16_parseLong 286 = .ok (.new 142, 3) := dk_187 0 142 (dk_at dksJ16_parseLong_12 9 rfl rfl)
theorem dJ16_parseLong_289 : decode cJ16_parseLong 289 = .ok (.dup, 1) := dk_89 (dk_at dksJ16_parseLong_12 12 rfl rfl)
theorem dJ16_parseLong_290 : decode cJ16_parseLong 290 = .ok (.ldc 196, 2) := dk_18 196 (dk_at dksJ16_parseLong_12 13 rfl rfl)
theorem dJ16_parseLong_292 : decode cJ16_parseLong 292 = .ok (.invokespecial 146, 3) := dk_183 0 146 (dk_at dksJ16_parseLong_12 15 rfl rfl)
theorem dJ16_parseLong_295 : decode cJ16_parseLong 295 = .ok (.athrow, 1) := dk_191 (dk_at dksJ16_parseLong_12 18 rfl rfl)
def dkwJ17_parseInt_12 : List UInt8 := [184, 0, 128, 191]
abbrev dktJ17_parseInt_12 : List UInt8 := dkwJ17_parseInt_12 ++ []
def dkwJ17_parseInt_11 : List UInt8 := [100, 54, 9, 167, 255, 180, 21, 4, 153, 0, 8, 21, 9, 167, 0, 6, 21, 9, 116, 172, 18, 154, 29]
abbrev dktJ17_parseInt_11 : List UInt8 := dkwJ17_parseInt_11 ++ dktJ17_parseInt_12
def dkwJ17_parseInt_10 : List UInt8 := [21, 6, 21, 10, 96, 162, 0, 12, 42, 27, 28, 21, 5, 184, 0, 150, 191, 132, 5, 1, 21, 9, 21, 10]
abbrev dktJ17_parseInt_10 : List UInt8 := dkwJ17_parseInt_10 ++ dktJ17_parseInt_11
def dkwJ17_parseInt_9 : List UInt8 := [21, 9, 21, 8, 162, 0, 12, 42, 27, 28, 21, 5, 184, 0, 150, 191, 21, 9, 29, 104, 54, 9, 21, 9]
abbrev dktJ17_parseInt_9 : List UInt8 := dkwJ17_parseInt_9 ++ dktJ17_parseInt_10
def dkwJ17_parseInt_8 : List UInt8 := [28, 162, 0, 76, 42, 21, 5, 185, 0, 149, 2, 0, 29, 184, 0, 132, 54, 10, 21, 10, 155, 0, 10]
abbrev dktJ17_parseInt_8 : List UInt8 := dkwJ17_parseInt_8 ++ dktJ17_parseInt_9
def dkwJ17_parseInt_7 : List UInt8 := [28, 160, 0, 12, 42, 27, 28, 21, 5, 184, 0, 150, 191, 21, 6, 29, 108, 54, 8, 3, 54, 9, 21, 5]
abbrev dktJ17_parseInt_7 : List UInt8 := dkwJ17_parseInt_7 ++ dktJ17_parseInt_8
def dkwJ17_parseInt_6 : List UInt8 := [167, 0, 19, 21, 7, 16, 43, 159, 0, 12, 42, 27, 28, 21, 5, 184, 0, 150, 191, 132, 5, 1, 21, 5]
abbrev dktJ17_parseInt_6 : List UInt8 := dkwJ17_parseInt_6 ++ dktJ17_parseInt_7
def dkwJ17_parseInt_5 : List UInt8 := [54, 7, 21, 7, 16, 48, 162, 0, 54, 21, 7, 16, 45, 160, 0, 13, 4, 54, 4, 18, 127, 54, 6]
abbrev dktJ17_parseInt_5 : List UInt8 := dkwJ17_parseInt_5 ++ dktJ17_parseInt_6
def dkwJ17_parseInt_4 : List UInt8 := [3, 54, 4, 27, 54, 5, 18, 122, 54, 6, 21, 5, 28, 162, 0, 173, 42, 21, 5, 185, 0, 149, 2, 0]
abbrev dktJ17_parseInt_4 : List UInt8 := dkwJ17_parseInt_4 ++ dktJ17_parseInt_5
def dkwJ17_parseInt_3 : List UInt8 := [183, 0, 99, 18, 102, 182, 0, 104, 29, 182, 0, 108, 18, 116, 182, 0, 104, 182, 0, 113, 183, 0, 94, 191]
abbrev dktJ17_parseInt_3 : List UInt8 := dkwJ17_parseInt_3 ++ dktJ17_parseInt_4
def dkwJ17_parseInt_2 : List UInt8 := [182, 0, 104, 182, 0, 113, 183, 0, 94, 191, 29, 16, 36, 164, 0, 35, 187, 0, 90, 89, 187, 0, 97, 89]
abbrev dktJ17_parseInt_2 : List UInt8 := dkwJ17_parseInt_2 ++ dktJ17_parseInt_3
def dkwJ17_parseInt_1 : List UInt8 := [187, 0, 90, 89, 187, 0, 97, 89, 183, 0, 99, 18, 102, 182, 0, 104, 29, 182, 0, 108, 18, 111]
abbrev dktJ17_parseInt_1 : List UInt8 := dkwJ17_parseInt_1 ++ dktJ17_parseInt_2
def dkwJ17_parseInt_0 : List UInt8 := [42, 184, 0, 136, 87, 27, 28, 42, 185, 0, 142, 1, 0, 184, 0, 145, 87, 29, 5, 162, 0, 35]
abbrev dktJ17_parseInt_0 : List UInt8 := dkwJ17_parseInt_0 ++ dktJ17_parseInt_1
theorem dksJ17_parseInt_0 : cJ17_parseInt.data.toList.drop 0 = dktJ17_parseInt_0 := by decide +kernel
theorem dksJ17_parseInt_1 : cJ17_parseInt.data.toList.drop 22 = dktJ17_parseInt_1 := dk_seg dksJ17_parseInt_0 22 rfl rfl
theorem dksJ17_parseInt_2 : cJ17_parseInt.data.toList.drop 44 = dktJ17_parseInt_2 := dk_seg dksJ17_parseInt_1 22 rfl rfl
theorem dksJ17_parseInt_3 : cJ17_parseInt.data.toList.drop 68 = dktJ17_parseInt_3 := dk_seg dksJ17_parseInt_2 24 rfl rfl
theorem dksJ17_parseInt_4 : cJ17_parseInt.data.toList.drop 92 = dktJ17_parseInt_4 := dk_seg dksJ17_parseInt_3 24 rfl rfl
theorem dksJ17_parseInt_5 : cJ17_parseInt.data.toList.drop 116 = dktJ17_parseInt_5 := dk_seg dksJ17_parseInt_4 24 rfl rfl
theorem dksJ17_parseInt_6 : cJ17_parseInt.data.toList.drop 139 = dktJ17_parseInt_6 := dk_seg dksJ17_parseInt_5 23 rfl rfl
theorem dksJ17_parseInt_7 : cJ17_parseInt.data.toList.drop 163 = dktJ17_parseInt_7 := dk_seg dksJ17_parseInt_6 24 rfl rfl
theorem dksJ17_parseInt_8 : cJ17_parseInt.data.toList.drop 187 = dktJ17_parseInt_8 := dk_seg dksJ17_parseInt_7 24 rfl rfl
theorem dksJ17_parseInt_9 : cJ17_parseInt.data.toList.drop 210 = dktJ17_parseInt_9 := dk_seg dksJ17_parseInt_8 23 rfl rfl
theorem dksJ17_parseInt_10 : cJ17_parseInt.data.toList.drop 234 = dktJ17_parseInt_10 := dk_seg dksJ17_parseInt_9 24 rfl rfl
theorem dksJ17_parseInt_11 : cJ17_parseInt.data.toList.drop 258 = dktJ17_parseInt_11 := dk_seg dksJ17_parseInt_10 24 rfl rfl
theorem dksJ17_parseInt_12 : cJ17_parseInt.data.toList.drop 281 = dktJ17_parseInt_12 := dk_seg dksJ17_parseInt_11 23 rfl rfl
theorem dJ17_parseInt_0 : decode cJ17_parseInt 0 = .ok (.aload_n 0, 1) := dk_42 (dk_at dksJ17_parseInt_0 0 rfl rfl)
theorem dJ17_parseInt_1 : decode cJ17_parseInt 1 = .ok (.invokestatic 136, 3) := dk_184 0 136 (dk_at dksJ17_parseInt_0 1 rfl rfl)
theorem dJ17_parseInt_4 : decode cJ17_parseInt 4 = .ok (.pop, 1) := dk_87 (dk_at dksJ17_parseInt_0 4 rfl rfl)
theorem dJ17_parseInt_5 : decode cJ17_parseInt 5 = .ok (.iload_n 1, 1) := dk_27 (dk_at dksJ17_parseInt_0 5 rfl rfl)
theorem dJ17_parseInt_6 : decode cJ17_parseInt 6 = .ok (.iload_n 2, 1) := dk_28 (dk_at dksJ17_parseInt_0 6 rfl rfl)
theorem dJ17_parseInt_7 : decode cJ17_parseInt 7 = .ok (.aload_n 0, 1) := dk_42 (dk_at dksJ17_parseInt_0 7 rfl rfl)
theorem dJ17_parseInt_8 : decode cJ17_parseInt 8 = .ok (.invokeinterface 142 1, 5) := by decide +kernel
theorem dJ17_parseInt_13 : decode cJ17_parseInt 13 = .ok (.invokestatic 145, 3) := dk_184 0 145 (dk_at dksJ17_parseInt_0 13 rfl rfl)
theorem dJ17_parseInt_16 : decode cJ17_parseInt 16 = .ok (.pop, 1) := dk_87 (dk_at dksJ17_parseInt_0 16 rfl rfl)
theorem dJ17_parseInt_17 : decode cJ17_parseInt 17 = .ok (.iload_n 3, 1) := dk_29 (dk_at dksJ17_parseInt_0 17 rfl rfl)
theorem dJ17_parseInt_18 : decode cJ17_parseInt 18 = .ok (.iconst 2, 1) := dk_5 (dk_at dksJ17_parseInt_0 18 rfl rfl)
theorem dJ17_parseInt_19 : decode cJ17_parseInt 19 = .ok (.if_icmp .ge 35, 3) := dk_162 0 35 (dk_at dksJ17_parseInt_0 19 rfl rfl)
theorem dJ17_parseInt_22 : decode cJ17_parseInt 22 = .ok (.new 90, 3) := dk_187 0 90 (dk_at dksJ17_parseInt_1 0 rfl rfl)
theorem dJ17_parseInt_25 : decode cJ17_parseInt 25 = .ok (.dup, 1) := dk_89 (dk_at dksJ17_parseInt_1 3 rfl rfl)
theorem dJ17_parseInt_26 : decode cJ17_parseInt 26 = .ok (.new 97, 3) := dk_187 0 97 (dk_at dksJ17_parseInt_1 4 rfl rfl)
theorem dJ17_parseInt_29 : decode cJ17_parseInt 29 = .ok (.dup, 1) := dk_89 (dk_at dksJ17_parseInt_1 7 rfl rfl)
theorem dJ17_parseInt_30 : decode cJ17_parseInt 30 = .ok (.invokespecial 99, 3) := dk_183 0 99 (dk_at dksJ17_parseInt_1 8 rfl rfl)
theorem dJ17_parseInt_33 : decode cJ17_parseInt 33 = .ok (.ldc 102, 2) := dk_18 102 (dk_at dksJ17_parseInt_1 11 rfl rfl)
theorem dJ17_parseInt_35 : decode cJ17_parseInt 35 = .ok (.invokevirtual 104, 3) := dk_182 0 104 (dk_at dksJ17_parseInt_1 13 rfl rfl)
theorem dJ17_parseInt_38 : decode cJ17_parseInt 38 = .ok (.iload_n 3, 1) := dk_29 (dk_at dksJ17_parseInt_1 16 rfl rfl)
theorem dJ17_parseInt_39 : decode cJ17_parseInt 39 = .ok (.invokevirtual 108, 3) := dk_182 0 108 (dk_at dksJ17_parseInt_1 17 rfl rfl)
theorem dJ17_parseInt_42 : decode cJ17_parseInt 42 = .ok (.ldc 111, 2) := dk_18 111 (dk_at dksJ17_parseInt_1 20 rfl rfl)
theorem dJ17_parseInt_44 : decode cJ17_parseInt 44 = .ok (.invokevirtual 104, 3) := dk_182 0 104 (dk_at dksJ17_parseInt_2 0 rfl rfl)
theorem dJ17_parseInt_47 : decode cJ17_parseInt 47 = .ok (.invokevirtual 113, 3) := dk_182 0 113 (dk_at dksJ17_parseInt_2 3 rfl rfl)
theorem dJ17_parseInt_50 : decode cJ17_parseInt 50 = .ok (.invokespecial 94, 3) := dk_183 0 94 (dk_at dksJ17_parseInt_2 6 rfl rfl)
theorem dJ17_parseInt_53 : decode cJ17_parseInt 53 = .ok (.athrow, 1) := dk_191 (dk_at dksJ17_parseInt_2 9 rfl rfl)
theorem dJ17_parseInt_54 : decode cJ17_parseInt 54 = .ok (.iload_n 3, 1) := dk_29 (dk_at dksJ17_parseInt_2 10 rfl rfl)
theorem dJ17_parseInt_55 : decode cJ17_parseInt 55 = .ok (.bipush 36, 2) := dk_16 36 (dk_at dksJ17_parseInt_2 11 rfl rfl)
theorem dJ17_parseInt_57 : decode cJ17_parseInt 57 = .ok (.if_icmp .le 35, 3) := dk_164 0 35 (dk_at dksJ17_parseInt_2 13 rfl rfl)
theorem dJ17_parseInt_60 : decode cJ17_parseInt 60 = .ok (.new 90, 3) := dk_187 0 90 (dk_at dksJ17_parseInt_2 16 rfl rfl)
theorem dJ17_parseInt_63 : decode cJ17_parseInt 63 = .ok (.dup, 1) := dk_89 (dk_at dksJ17_parseInt_2 19 rfl rfl)
theorem dJ17_parseInt_64 : decode cJ17_parseInt 64 = .ok (.new 97, 3) := dk_187 0 97 (dk_at dksJ17_parseInt_2 20 rfl rfl)
theorem dJ17_parseInt_67 : decode cJ17_parseInt 67 = .ok (.dup, 1) := dk_89 (dk_at dksJ17_parseInt_2 23 rfl rfl)
theorem dJ17_parseInt_68 : decode cJ17_parseInt 68 = .ok (.invokespecial 99, 3) := dk_183 0 99 (dk_at dksJ17_parseInt_3 0 rfl rfl)
theorem dJ17_parseInt_71 : decode cJ17_parseInt 71 = .ok (.ldc 102, 2) := dk_18 102 (dk_at dksJ17_parseInt_3 3 rfl rfl)
theorem dJ17_parseInt_73 : decode cJ17_parseInt 73 = .ok (.invokevirtual 104, 3) := dk_182 0 104 (dk_at dksJ17_parseInt_3 5 rfl rfl)
theorem dJ17_parseInt_76 : decode cJ17_parseInt 76 = .ok (.iload_n 3, 1) := dk_29 (dk_at dksJ17_parseInt_3 8 rfl rfl)
theorem dJ17_parseInt_77 : decode cJ17_parseInt 77 = .ok (.invokevirtual 108, 3) := dk_182 0 108 (dk_at dksJ17_parseInt_3 9 rfl rfl)
theorem dJ17_parseInt_80 : decode cJ17_parseInt 80 = .ok (.ldc 116, 2) := dk_18 116 (dk_at dksJ17_parseInt_3 12 rfl rfl)
theorem dJ17_parseInt_82 : decode cJ17_parseInt 82 = .ok (.invokevirtual 104, 3) := dk_182 0 104 (dk_at dksJ17_parseInt_3 14 rfl rfl)
theorem dJ17_parseInt_85 : decode cJ17_parseInt 85 = .ok (.invokevirtual 113, 3) := dk_182 0 113 (dk_at dksJ17_parseInt_3 17 rfl rfl)
theorem dJ17_parseInt_88 : decode cJ17_parseInt 88 = .ok (.invokespecial 94, 3) := dk_183 0 94 (dk_at dksJ17_parseInt_3 20 rfl rfl)
theorem dJ17_parseInt_91 : decode cJ17_parseInt 91 = .ok (.athrow, 1) := dk_191 (dk_at dksJ17_parseInt_3 23 rfl rfl)
theorem dJ17_parseInt_92 : decode cJ17_parseInt 92 = .ok (.iconst 0, 1) := dk_3 (dk_at dksJ17_parseInt_4 0 rfl rfl)
theorem dJ17_parseInt_93 : decode cJ17_parseInt 93 = .ok (.istore 4, 2) := dk_54 4 (dk_at dksJ17_parseInt_4 1 rfl rfl)
theorem dJ17_parseInt_95 : decode cJ17_parseInt 95 = .ok (.iload_n 1, 1) := dk_27 (dk_at dksJ17_parseInt_4 3 rfl rfl)
theorem dJ17_parseInt_96 : decode cJ17_parseInt 96 = .ok (.istore 5, 2) := dk_54 5 (dk_at dksJ17_parseInt_4 4 rfl rfl)
theorem dJ17_parseInt_98 : decode cJ17_parseInt 98 = .ok (.ldc 122, 2) := dk_18 122 (dk_at dksJ17_parseInt_4 6 rfl rfl)
theorem dJ17_parseInt_100 : decode cJ17_parseInt 100 = .ok (.istore 6, 2) := dk_54 6 (dk_at dksJ17_parseInt_4 8 rfl rfl)
theorem dJ17_parseInt_102 : decode cJ17_parseInt 102 = .ok (.iload 5, 2) := dk_21 5 (dk_at dksJ17_parseInt_4 10 rfl rfl)
theorem dJ17_parseInt_104 : decode cJ17_parseInt 104 = .ok (.iload_n 2, 1) := dk_28 (dk_at dksJ17_parseInt_4 12 rfl rfl)
theorem dJ17_parseInt_105 : decode cJ17_parseInt 105 = .ok (.if_icmp .ge 173, 3) := dk_162 0 173 (dk_at dksJ17_parseInt_4 13 rfl rfl)
theorem dJ17_parseInt_108 : decode cJ17_parseInt 108 = .ok (.aload_n 0, 1) := dk_42 (dk_at dksJ17_parseInt_4 16 rfl rfl)
theorem dJ17_parseInt_109 : decode cJ17_parseInt 109 = .ok (.iload 5, 2) := dk_21 5 (dk_at dksJ17_parseInt_4 17 rfl rfl)
theorem dJ17_parseInt_111 : decode cJ17_parseInt 111 = .ok (.invokeinterface 149 2, 5) := by decide +kernel
theorem dJ17_parseInt_116 : decode cJ17_parseInt 116 = .ok (.istore 7, 2) := dk_54 7 (dk_at dksJ17_parseInt_5 0 rfl rfl)
theorem dJ17_parseInt_118 : decode cJ17_parseInt 118 = .ok (.iload 7, 2) := dk_21 7 (dk_at dksJ17_parseInt_5 2 rfl rfl)
theorem dJ17_parseInt_120 : decode cJ17_parseInt 120 = .ok (.bipush 48, 2) := dk_16 48 (dk_at dksJ17_parseInt_5 4 rfl rfl)
theorem dJ17_parseInt_122 : decode cJ17_parseInt 122 = .ok (.if_icmp .ge 54, 3) := dk_162 0 54 (dk_at dksJ17_parseInt_5 6 rfl rfl)
theorem dJ17_parseInt_125 : decode cJ17_parseInt 125 = .ok (.iload 7, 2) := dk_21 7 (dk_at dksJ17_parseInt_5 9 rfl rfl)
theorem dJ17_parseInt_127 : decode cJ17_parseInt 127 = .ok (.bipush 45, 2) := dk_16 45 (dk_at dksJ17_parseInt_5 11 rfl rfl)
theorem dJ17_parseInt_129 : decode cJ17_parseInt 129 = .ok (.if_icmp .ne 13, 3) := dk_160 0 13 (dk_at dksJ17_parseInt_5 13 rfl rfl)
theorem dJ17_parseInt_132 : decode cJ17_parseInt 132 = .ok (.iconst 1, 1) := dk_4 (dk_at dksJ17_parseInt_5 16 rfl rfl)
theorem dJ17_parseInt_133 : decode cJ17_parseInt 133 = .ok (.istore 4, 2) := dk_54 4 (dk_at dksJ17_parseInt_5 17 rfl rfl)
theorem dJ17_parseInt_135 : decode cJ17_parseInt 135 = .ok (.ldc 127, 2) := dk_18 127 (dk_at dksJ17_parseInt_5 19 rfl rfl)
theorem dJ17_parseInt_137 : decode cJ17_parseInt 137 = .ok (.istore 6, 2) := dk_54 6 (dk_at dksJ17_parseInt_5 21 rfl rfl)
theorem dJ17_parseInt_139 : decode cJ17_parseInt 139 = .ok (.goto 19, 3) := dk_167 0 19 (dk_at dksJ17_parseInt_6 0 rfl rfl)
theorem dJ17_parseInt_142 : decode cJ17_parseInt 142 = .ok (.iload 7, 2) := dk_21 7 (dk_at dksJ17_parseInt_6 3 rfl rfl)
theorem dJ17_parseInt_144 : decode cJ17_parseInt 144 = .ok (.bipush 43, 2) := dk_16 43 (dk_at dksJ17_parseInt_6 5 rfl rfl)
theorem dJ17_parseInt_146 : decode cJ17_parseInt 146 = .ok (.if_icmp .eq 12, 3) := dk_159 0 12 (dk_at dksJ17_parseInt_6 7 rfl rfl)
theorem dJ17_parseInt_149 : decode cJ17_parseInt 149 = .ok (.aload_n 0, 1) := dk_42 (dk_at dksJ17_parseInt_6 10 rfl rfl)
theorem dJ17_parseInt_150 : decode cJ17_parseInt 150 = .ok (.iload_n 1, 1) := dk_27 (dk_at dksJ17_parseInt_6 11 rfl rfl)
theorem dJ17_parseInt_151 : decode cJ17_parseInt 151 = .ok (.iload_n 2, 1) := dk_28 (dk_at dksJ17_parseInt_6 12 rfl rfl)
theorem dJ17_parseInt_152 : decode cJ17_parseInt 152 = .ok (.iload 5, 2) := dk_21 5 (dk_at dksJ17_parseInt_6 13 rfl rfl)
theorem dJ17_parseInt_154 : decode cJ17_parseInt 154 = .ok (.invokestatic 150, 3) := dk_184 0 150 (dk_at dksJ17_parseInt_6 15 rfl rfl)
theorem dJ17_parseInt_157 : decode cJ17_parseInt 157 = .ok (.athrow, 1) := dk_191 (dk_at dksJ17_parseInt_6 18 rfl rfl)
theorem dJ17_parseInt_158 : decode cJ17_parseInt 158 = .ok (.iinc 5 1, 3) := dk_132 5 1 (dk_at dksJ17_parseInt_6 19 rfl rfl)
theorem dJ17_parseInt_161 : decode cJ17_parseInt 161 = .ok (.iload 5, 2) := dk_21 5 (dk_at dksJ17_parseInt_6 22 rfl rfl)
theorem dJ17_parseInt_163 : decode cJ17_parseInt 163 = .ok (.iload_n 2, 1) := dk_28 (dk_at dksJ17_parseInt_7 0 rfl rfl)
theorem dJ17_parseInt_164 : decode cJ17_parseInt 164 = .ok (.if_icmp .ne 12, 3) := dk_160 0 12 (dk_at dksJ17_parseInt_7 1 rfl rfl)
theorem dJ17_parseInt_167 : decode cJ17_parseInt 167 = .ok (.aload_n 0, 1) := dk_42 (dk_at dksJ17_parseInt_7 4 rfl rfl)
theorem dJ17_parseInt_168 : decode cJ17_parseInt 168 = .ok (.iload_n 1, 1) := dk_27 (dk_at dksJ17_parseInt_7 5 rfl rfl)
theorem dJ17_parseInt_169 : decode cJ17_parseInt 169 = .ok (.iload_n 2, 1) := dk_28 (dk_at dksJ17_parseInt_7 6 rfl rfl)
theorem dJ17_parseInt_170 : decode cJ17_parseInt 170 = .ok (.iload 5, 2) := dk_21 5 (dk_at dksJ17_parseInt_7 7 rfl rfl)
theorem dJ17_parseInt_172 : decode cJ17_parseInt 172 = .ok (.invokestatic 150, 3) := dk_184 0 150 (dk_at dksJ17_parseInt_7 9 rfl rfl)
theorem dJ17_parseInt_175 : decode cJ17_parseInt 175 = .ok (.athrow, 1) := dk_191 (dk_at dksJ17_parseInt_7 12 rfl rfl)
theorem dJ17_parseInt_176 : decode cJ17_parseInt 176 = .ok (.iload 6, 2) := dk_21 6 (dk_at dksJ17_parseInt_7 13 rfl rfl)
theorem dJ17_parseInt_178 : decode cJ17_parseInt 178 = .ok (.iload_n 3, 1) := dk_29 (dk_at dksJ17_parseInt_7 15 rfl rfl)
theorem dJ17_parseInt_179 : decode cJ17_parseInt 179 = .ok (.idiv, 1) := dk_108 (dk_at dksJ17_parseInt_7 16 rfl rfl)
theorem dJ17_parseInt_180 : decode cJ17_parseInt 180 = .ok (.istore 8, 2) := dk_54 8 (dk_at dksJ17_parseInt_7 17 rfl rfl)
theorem dJ17_parseInt_182 : decode cJ17_parseInt 182 = .ok (.iconst 0, 1) := dk_3 (dk_at dksJ17_parseInt_7 19 rfl rfl)
theorem dJ17_parseInt_183 : decode cJ17_parseInt 183 = .ok (.istore 9, 2) := dk_54 9 (dk_at dksJ17_parseInt_7 20 rfl rfl)
theorem dJ17_parseInt_185 : decode cJ17_parseInt 185 = .ok (.iload 5, 2) := dk_21 5 (dk_at dksJ17_parseInt_7 22 rfl rfl)
theorem dJ17_parseInt_187 : decode cJ17_parseInt 187 = .ok (.iload_n 2, 1) := dk_28 (dk_at dksJ17_parseInt_8 0 rfl rfl)
theorem dJ17_parseInt_188 : decode cJ17_parseInt 188 = .ok (.if_icmp .ge 76, 3) := dk_162 0 76 (dk_at dksJ17_parseInt_8 1 rfl rfl)
theorem dJ17_parseInt_191 : decode cJ17_parseInt 191 = .ok (.aload_n 0, 1) := dk_42 (dk_at dksJ17_parseInt_8 4 rfl rfl)
theorem dJ17_parseInt_192 : decode cJ17_parseInt 192 = .ok (.iload 5, 2) := dk_21 5 (dk_at dksJ17_parseInt_8 5 rfl rfl)
theorem dJ17_parseInt_194 : decode cJ17_parseInt 194 = .ok (.invokeinterface 149 2, 5) := by decide +kernel
theorem dJ17_parseInt_199 : decode cJ17_parseInt 199 = .ok (.iload_n 3, 1) := dk_29 (dk_at dksJ17_parseInt_8 12 rfl rfl)
theorem dJ17_parseInt_200 : decode cJ17_parseInt 200 = .ok (.invokestatic 132, 3) := dk_184 0 132 (dk_at dksJ17_parseInt_8 13 rfl rfl)
theorem dJ17_parseInt_203 : decode cJ17_parseInt 203 = .ok (.istore 10, 2) := dk_54 10 (dk_at dksJ17_parseInt_8 16 rfl rfl)
theorem dJ17_parseInt_205 : decode cJ17_parseInt 205 = .ok (.iload 10, 2) := dk_21 10 (dk_at dksJ17_parseInt_8 18 rfl rfl)
theorem dJ17_parseInt_207 : decode cJ17_parseInt 207 = .ok (.ifCond .lt 10, 3) := dk_155 0 10 (dk_at dksJ17_parseInt_8 20 rfl rfl)
theorem dJ17_parseInt_210 : decode cJ17_parseInt 210 = .ok (.iload 9, 2) := dk_21 9 (dk_at dksJ17_parseInt_9 0 rfl rfl)
theorem dJ17_parseInt_212 : decode cJ17_parseInt 212 = .ok (.iload 8, 2) := dk_21 8 (dk_at dksJ17_parseInt_9 2 rfl rfl)
theorem dJ17_parseInt_214 : decode cJ17_parseInt 214 = .ok (.if_icmp .ge 12, 3) := dk_162 0 12 (dk_at dksJ17_parseInt_9 4 rfl rfl)
theorem dJ17_parseInt_217 : decode cJ17_parseInt 217 = .ok (.aload_n 0, 1) := dk_42 (dk_at dksJ17_parseInt_9 7 rfl rfl)
theorem dJ17_parseInt_218 : decode cJ17_parseInt 218 = .ok (.iload_n 1, 1) := dk_27 (dk_at dksJ17_parseInt_9 8 rfl rfl)
theorem dJ17_parseInt_219 : decode cJ17_parseInt 219 = .ok (.iload_n 2, 1) := dk_28 (dk_at dksJ17_parseInt_9 9 rfl rfl)
theorem dJ17_parseInt_220 : decode cJ17_parseInt 220 = .ok (.iload 5, 2) := dk_21 5 (dk_at dksJ17_parseInt_9 10 rfl rfl)
theorem dJ17_parseInt_222 : decode cJ17_parseInt 222 = .ok (.invokestatic 150, 3) := dk_184 0 150 (dk_at dksJ17_parseInt_9 12 rfl rfl)
theorem dJ17_parseInt_225 : decode cJ17_parseInt 225 = .ok (.athrow, 1) := dk_191 (dk_at dksJ17_parseInt_9 15 rfl rfl)
theorem dJ17_parseInt_226 : decode cJ17_parseInt 226 = .ok (.iload 9, 2) := dk_21 9 (dk_at dksJ17_parseInt_9 16 rfl rfl)
theorem dJ17_parseInt_228 : decode cJ17_parseInt 228 = .ok (.iload_n 3, 1) := dk_29 (dk_at dksJ17_parseInt_9 18 rfl rfl)
theorem dJ17_parseInt_229 : decode cJ17_parseInt 229 = .ok (.imul, 1) := dk_104 (dk_at dksJ17_parseInt_9 19 rfl rfl)
theorem dJ17_parseInt_230 : decode cJ17_parseInt 230 = .ok (.istore 9, 2) := dk_54 9 (dk_at dksJ17_parseInt_9 20 rfl rfl)
theorem dJ17_parseInt_232 : decode cJ17_parseInt 232 = .ok (.iload 9, 2) := dk_21 9 (dk_at dksJ17_parseInt_9 22 rfl rfl)
theorem dJ17_parseInt_234 : decode cJ17_parseInt 234 = .ok (.iload 6, 2) := dk_21 6 (dk_at dksJ17_parseInt_10 0 rfl rfl)
theorem dJ17_parseInt_236 : decode cJ17_parseInt 236 = .ok (.iload 10, 2) := dk_21 10 (dk_at dksJ17_parseInt_10 2 rfl rfl)
theorem dJ17_parseInt_238 : decode cJ17_parseInt 238 = .ok (.iadd, 1) := dk_96 (dk_at dksJ17_parseInt_10 4 rfl rfl)
theorem dJ17_parseInt_239 : decode cJ17_parseInt 239 = .ok (.if_icmp .ge 12, 3) := dk_162 0 12 (dk_at dksJ17_parseInt_10 5 rfl rfl)
theorem dJ17_parseInt_242 : decode cJ17_parseInt 242 = .ok (.aload_n 0, 1) := dk_42 (dk_at dksJ17_parseInt_10 8 rfl rfl)
theorem dJ17_parseInt_243 : decode cJ17_parseInt 243 = .ok (.iload_n 1, 1) := dk_27 (dk_at dksJ17_parseInt_10 9 rfl rfl)
theorem dJ17_parseInt_244 : decode cJ17_parseInt 244 = .ok (.iload_n 2, 1) := dk_28 (dk_at dksJ17_parseInt_10 10 rfl rfl)
theorem dJ17_parseInt_245 : decode cJ17_parseInt 245 = .ok (.iload 5, 2) := dk_21 5 (dk_at dksJ17_parseInt_10 11 rfl rfl)
theorem dJ17_parseInt_247 : decode cJ17_parseInt 247 = .ok (.invokestatic 150, 3) := dk_184 0 150 (dk_at dksJ17_parseInt_10 13 rfl rfl)
theorem dJ17_parseInt_250 : decode cJ17_parseInt 250 = .ok (.athrow, 1) := dk_191 (dk_at dksJ17_parseInt_10 16 rfl rfl)
theorem dJ17_parseInt_251 : decode cJ17_parseInt 251 = .ok (.iinc 5 1, 3) := dk_132 5 1 (dk_at dksJ17_parseInt_10 17 rfl rfl)
theorem dJ17_parseInt_254 : decode cJ17_parseInt 254 = .ok (.iload 9, 2) := dk_21 9 (dk_at dksJ17_parseInt_10 20 rfl rfl)
theorem dJ17_parseInt_256 : decode cJ17_parseInt 256 = .ok (.iload 10, 2) := dk_21 10 (dk_at dksJ17_parseInt_10 22 rfl rfl)
theorem dJ17_parseInt_258 : decode cJ17_parseInt 258 = .ok (.isub, 1) := dk_100 (dk_at dksJ17_parseInt_11 0 rfl rfl)
theorem dJ17_parseInt_259 : decode cJ17_parseInt 259 = .ok (.istore 9, 2) := dk_54 9 (dk_at dksJ17_parseInt_11 1 rfl rfl)
theorem dJ17_parseInt_261 : decode cJ17_parseInt 261 = .ok (.goto (-76), 3) := dk_167 255 180 (dk_at dksJ17_parseInt_11 3 rfl rfl)
theorem dJ17_parseInt_264 : decode cJ17_parseInt 264 = .ok (.iload 4, 2) := dk_21 4 (dk_at dksJ17_parseInt_11 6 rfl rfl)
theorem dJ17_parseInt_266 : decode cJ17_parseInt 266 = .ok (.ifCond .eq 8, 3) := dk_153 0 8 (dk_at dksJ17_parseInt_11 8 rfl rfl)
theorem dJ17_parseInt_269 : decode cJ17_parseInt 269 = .ok (.iload 9, 2) := dk_21 9 (dk_at dksJ17_parseInt_11 11 rfl rfl)
theorem dJ17_parseInt_271 : decode cJ17_parseInt 271 = .ok (.goto 6, 3) := dk_167 0 6 (dk_at dksJ17_parseInt_11 13 rfl rfl)
theorem dJ17_parseInt_274 : decode cJ17_parseInt 274 = .ok (.iload 9, 2) := dk_21 9 (dk_at dksJ17_parseInt_11 16 rfl rfl)
theorem dJ17_parseInt_276 : decode cJ17_parseInt 276 = .ok (.ineg, 1) := dk_116 (dk_at dksJ17_parseInt_11 18 rfl rfl)
theorem dJ17_parseInt_277 : decode cJ17_parseInt 277 = .ok (.ireturn, 1) := dk_172 (dk_at dksJ17_parseInt_11 19 rfl rfl)
theorem dJ17_parseInt_278 : decode cJ17_parseInt 278 = .ok (.ldc 154, 2) := dk_18 154 (dk_at dksJ17_parseInt_11 20 rfl rfl)
theorem dJ17_parseInt_280 : decode cJ17_parseInt 280 = .ok (.iload_n 3, 1) := dk_29 (dk_at dksJ17_parseInt_11 22 rfl rfl)
theorem dJ17_parseInt_281 : decode cJ17_parseInt 281 = .ok (.invokestatic 128, 3) := dk_184 0 128 (dk_at dksJ17_parseInt_12 0 rfl rfl)
theorem dJ17_parseInt_284 : decode cJ17_parseInt 284 = .ok (.athrow, 1) := dk_191 (dk_at dksJ17_parseInt_12 3 rfl rfl)
theorem yd_J16_parseLong_3 : yJ16_parseLong_3.cls ≠ "java/lang/invoke/MethodHandle" ∧ yJ16_parseLong_3.cls ≠ "java/lang/invoke/VarHandle" ∧ (parseMethodDescriptor yJ16_parseLong_3.desc).map (fun d => d.parameters.length) = some 2 := by decide +kernel
theorem yd_J19_digit : yJ19_digit.cls ≠ "java/lang/invoke/MethodHandle" ∧ yJ19_digit.cls ≠ "java/lang/invoke/VarHandle" ∧ (parseMethodDescriptor yJ19_digit.desc).map (fun d => d.parameters.length) = some 2 := by decide +kernel
theorem yd_J19_digit_2 : yJ19_digit_2.cls ≠ "java/lang/invoke/MethodHandle" ∧ yJ19_digit_2.cls ≠ "java/lang/invoke/VarHandle" ∧ (parseMethodDescriptor yJ19_digit_2.desc).map (fun d => d.parameters.length) = some 2 := by decide +kernel
theorem yd_J20_checkFromToIndex : yJ20_checkFromToIndex.cls ≠ "java/lang/invoke/MethodHandle" ∧ yJ20_checkFromToIndex.cls ≠ "java/lang/invoke/VarHandle" ∧ (parseMethodDescriptor yJ20_checkFromToIndex.desc).map (fun d => d.parameters.length) = some 3 := by decide +kernel
theorem yd_J20_requireNonNull : yJ20_requireNonNull.cls ≠ "java/lang/invoke/MethodHandle" ∧ yJ20_requireNonNull.cls ≠ "java/lang/invoke/VarHandle" ∧ (parseMethodDescriptor yJ20_requireNonNull.desc).map (fun d => d.parameters.length) = some 1 := by decide +kernel
theorem yd_J25_of : yJ25_of.cls ≠ "java/lang/invoke/MethodHandle" ∧ yJ25_of.cls ≠ "java/lang/invoke/VarHandle" ∧ (parseMethodDescriptor yJ25_of.desc).map (fun d => d.parameters.length) = some 1 := by decide +kernel
theorem ydv_J5_charAt : yJ5_charAt.cls = "java/lang/String" ∧ yJ5_charAt.cls ≠ "java/lang/invoke/MethodHandle" ∧ yJ5_charAt.cls ≠ "java/lang/invoke/VarHandle" ∧ (parseMethodDescriptor yJ5_charAt.desc).map (fun d => d.parameters.length) = some 1 := by decide +kernel
/-! ### numbers read from texts -/
def kDg (i : Nat) : Int32 := if 48 ≤ i ∧ i < 58 then nI (i - 48) else if 65 ≤ i ∧ i < 91 then nI (i - 55) else if 97 ≤ i ∧ i < 123 then nI (i - 87) else -1
/-- an object of a class -/
def gK (z : State) (C : String) (H : Heap) (a : Nat) : Prop := ∃ cell : Cell, H[a]? = some cell ∧ cell.vm.isStatics = false ∧ z.vm.findClass C = some cell.cls
theorem gK.recv {z s : State} {C : String} {H : Heap} {a : Nat} (h : gK z C H a) (hal : z.vm.Alike s.vm) : ∃ cell : Cell, H[a]? = some cell ∧ cell.vm.isStatics = false ∧ s.vm.findClass C = some cell.cls := by
  obtain ⟨cell, h1, h2, h3⟩ := h
  exact ⟨cell, h1, h2, by rw [hal.findClass]; exact h3⟩
theorem gK.to {z : State} {C : String} {H H1 : Heap} {a : Nat} (h : gK z C H a) (h1 : H1[a]? = H[a]?) : gK z C H1 a := by
  obtain ⟨cell, q, r⟩ := h
  exact ⟨cell, by rw [h1]; exact q, r⟩
theorem gK.lt {z : State} {C : String} {H : Heap} {a : Nat} (h : gK z C H a) : a < H.size := by
  obtain ⟨cell, h1, -⟩ := h
  exact (Array.getElem?_eq_some_iff.mp h1).1
/-- what Character.digit reads -/
def sG (z : State) (k : Nat → Nat) (A : Nat → Prop) (H : Heap) : Prop :=
  (gZ z "java/lang/CharacterDataLatin1" "instance" "Ljava/lang/CharacterDataLatin1;" (.ref (k 4)) A H ∧ gZ z "java/lang/CharacterDataLatin1" "DIGITS" "[B" (.ref (k 5)) A H) ∧ (gK z "java/lang/CharacterDataLatin1" H (k 4) ∧ gI z false .byte H (k 5) 256 kDg) ∧ ¬ A (k 4) ∧ ¬ A (k 5)
theorem sG.call {z : State} {k : Nat → Nat} {A A1 : Nat → Prop} {H0 H : Heap} {locs : List Loc} (h : sG z k A H0) (hS : va_S A H0 H locs) (hA : ∀ q, A1 q → A q) : sG z k A1 H :=
  ⟨⟨h.1.1.call hS hA, h.1.2.call hS hA⟩, ⟨h.2.1.1.to (hS.2.1 _ h.2.1.1.lt h.2.2.1), h.2.1.2.to (hS.2.1 _ h.2.1.2.lt h.2.2.2)⟩, fun q => h.2.2.1 (hA _ q), fun q => h.2.2.2 (hA _ q)⟩
theorem sG.cur {z : State} {k : Nat → Nat} {A : Nat → Prop} {H0 H : Heap} {locs : List Loc} (h : sG z k A H0) (hS : va_S A H0 H locs) : sG z k A H := h.call hS (fun _ q => q)
theorem ch_hi {c : Nat} (h : c < 128) : ((nI c).toUInt32 >>> ((8 : Int32).toUInt32 &&& Int32.toUInt32 31)).toInt32 = 0 := by
  have : ∀ c, c < 128 → ((nI c).toUInt32 >>> ((8 : Int32).toUInt32 &&& Int32.toUInt32 31)).toInt32 = 0 := by decide +kernel
  exact this c h
/-- the first t digits of n, as a number -/
def pfx (n t : Nat) : Nat := n / 10 ^ (nd n - t)
theorem lt_nd (n : Nat) : n < 10 ^ nd n := by
  have h := nd_pos n
  obtain ⟨i, hi⟩ : ∃ i, nd n = i + 1 := ⟨nd n - 1, by omega⟩
  rw [hi]
  exact (nd_le n i).mp (by omega)
theorem pfx_0 (n : Nat) : pfx n 0 = 0 := Nat.div_eq_of_lt (lt_nd n)
theorem pfx_end (n : Nat) : pfx n (nd n) = n := by unfold pfx; rw [Nat.sub_self, Nat.pow_zero, Nat.div_one]
theorem pfx_le (n t : Nat) : pfx n t ≤ n := Nat.div_le_self _ _
def dgt (n t : Nat) : Nat := n / 10 ^ (nd n - 1 - t) % 10
theorem dgt_lt (n t : Nat) : dgt n t < 10 := Nat.mod_lt _ (by decide)
theorem pfx_s {n t : Nat} (h : t < nd n) : pfx n (t + 1) = 10 * pfx n t + dgt n t := by
  unfold pfx dgt
  rw [show nd n - (t + 1) = nd n - 1 - t by omega]
  have e : 10 ^ (nd n - t) = 10 ^ (nd n - 1 - t) * 10 := by rw [← Nat.pow_succ]; congr 1; omega
  rw [e, ← Nat.div_div_eq_div_mul]
  omega
theorem dg_at : ∀ (n t : Nat), t < nd n → (dg n).getD t 0 = 48 + dgt n t := by
  intro n
  induction n using Nat.strongRecOn with
  | ind n ih =>
    intro t ht
    rcases Nat.lt_or_ge n 10 with h | h
    · rw [nd_lt h] at ht
      have : t = 0 := by omega
      subst this
      unfold dgt
      rw [dg_lt h, nd_lt h]
      show 48 + n = 48 + n / 10 ^ 0 % 10
      rw [Nat.pow_zero, Nat.div_one, Nat.mod_eq_of_lt h]
    · rw [nd_ge h] at ht
      rw [dg_ge h, getD_ap]
      have hl : (dg (n / 10)).length = nd (n / 10) := rfl
      unfold dgt
      rw [nd_ge h, hl]
      split
      · rename_i q
        rw [ih (n / 10) (by omega) t q]
        unfold dgt
        rw [Nat.div_div_eq_div_mul, ← Nat.pow_succ', show (nd (n / 10) - 1 - t).succ = nd (n / 10) + 1 - 1 - t by omega]
      · rename_i q
        rw [show t - nd (n / 10) = 0 by omega, show nd (n / 10) + 1 - 1 - t = 0 by omega, Nat.pow_zero, Nat.div_one]
        rfl
/-- the number x stands in T from u on -/
def numAt (T : List Nat) (u : Nat) (x : Int) : Prop := (x < 0 → T.getD u 0 = 45) ∧ (∀ t, t < nd x.natAbs → T.getD (u + mn x + t) 0 = 48 + dgt x.natAbs t) ∧ u + mn x + nd x.natAbs ≤ T.length
theorem numAt_of (X Y : List Nat) (x : Int) : numAt (X ++ (sdg x ++ Y)) X.length x := by
  unfold numAt sdg mn
  have hn : (dg x.natAbs).length = nd x.natAbs := rfl
  refine ⟨fun h => ?_, fun t ht => ?_, ?_⟩
  · rw [getD_ap, if_neg (by omega), Nat.sub_self, if_pos h]
    rfl
  · rw [getD_ap, if_neg (by omega), getD_ap, ← dg_at _ _ ht]
    split
    · rw [if_pos (by simp; omega), getD_ap, if_neg (by simp; omega)]
      congr 1
      simp
      omega
    · rw [if_pos (by simp; omega), getD_ap, if_neg (by simp)]
      congr 1
      simp
  · split <;> simp <;> omega
theorem numAt_self (x : Int) : numAt (sdg x) 0 x := by
  have := numAt_of [] [] x
  rwa [List.nil_append, List.append_nil] at this

set_option maxHeartbeats 1000000 in
theorem m_cdOf (l : Launch) (z : State) (H0 : Heap)  (ch : Nat) {A : Nat → Prop} (k : Nat → Nat) (hch : ch < 128) (hg : sG z k A H0) : Met l yJ25_of (ws_ yJ25_of cJ25_of 1 (some (.object "java/lang/CharacterData"))) { frames := 0, cells := 0, slots := 0, locals := 0 } (gPc z H0 [.int (nI ch)]) (gPr H0 (fun r => r = k 4)) 0 0 gno := by
  refine g_start (by decide +kernel) (Nat.le_of_ble_eq_true rfl) ?_
  intro p e s m below meth c ls hx hb hr hlocks hml hown hname hts hwm hl
  have hown : s.vm.findClass "java/lang/CharacterData" = some m.cls := hown
  have hal : z.vm.Alike s.vm := hwm.alike
  have hCF : CallFix p m c cJ25_of 1 s [.int (nI ch)].toArray lw_all "java/lang/CharacterData" := ⟨hx, hb, hml, hown, hts⟩
  have hl : lv_has ls 1 [(0, .int (nI ch))] := hl
  refine lv_iload_n hx hb dJ25_of_0 rfl (lv_at hl 0 rfl) ?_
  refine lv_bipush (v := 8) hx hb dJ25_of_1 (by decide) ?_
  refine lv_iushr hx hb dJ25_of_3 rfl ?_
  refine g_topi (v := 0) (ch_hi hch) ?_
  refine lv_if_ne (tgt := 11) hx hb dJ25_of_4 (by decide) (fun c_4 => absurd (rfl) c_4) (fun c_4 => ?_)
  refine gw_getsP hx hb hal hg.1.1 hown (hts _ q1418) (fun _ h9 => h9) dJ25_of_7 ?_
  refine g_aretP hx hb hr hlocks (Or.inl ⟨_, rfl⟩) ?_ dJ25_of_10
  rfl
set_option maxHeartbeats 1000000 in
theorem m_digitV (l : Launch) (z : State) (H0 : Heap) (a : Nat) (ch : Nat) {A : Nat → Prop} (k : Nat → Nat) (h48 : 48 ≤ ch) (h58 : ch < 58) (hg : sG z k A H0) : Met l yJ26_digit (ws_ yJ26_digit cJ26_digit 4 (some .int)) { frames := 0, cells := 0, slots := 0, locals := 0 } (gPc z H0 [.ref a, .int (nI ch), .int 10]) (gPi H0 (fun r => r = nI (ch - 48))) 0 0 gno := by
  refine g_start (by decide +kernel) (Nat.le_of_ble_eq_true rfl) ?_
  intro p e s m below meth c ls hx hb hr hlocks hml hown hname hts hwm hl
  have hown : s.vm.findClass "java/lang/CharacterDataLatin1" = some m.cls := hown
  have hal : z.vm.Alike s.vm := hwm.alike
  have hCF : CallFix p m c cJ26_digit 4 s [.ref a, .int (nI ch), .int 10].toArray lw_all "java/lang/CharacterDataLatin1" := ⟨hx, hb, hml, hown, hts⟩
  have hl : lv_has ls 4 [(0, .ref a), (1, .int (nI ch)), (2, .int 10)] := hl
  refine gw_getsP hx hb hal hg.1.2 hown (hts _ q1426) (fun _ h9 => h9) dJ26_digit_0 ?_
  refine lv_iload_n hx hb dJ26_digit_3 rfl (lv_at hl 1 rfl) ?_
  refine gw_bald hx hb hal hg.2.1.2 ch (rfl) (by omega) (by omega) dJ26_digit_4 ?_
  refine g_topi (v := (nI (ch - 48))) (by unfold kDg; rw [if_pos (by omega)]) ?_
  refine lv_istore_n hx hb dJ26_digit_5 rfl hl (by decide) rfl (fun ls hl => ?_)
  have hl : lv_has ls 4 [(3, .int (nI (ch - 48))), (0, .ref a), (1, .int (nI ch)), (2, .int 10)] := hl
  refine lv_iload_n hx hb dJ26_digit_6 rfl (lv_at hl 0 rfl) ?_
  refine lv_if_lt (tgt := 30) hx hb dJ26_digit_7 (by decide) (fun c_7 => False.elim (by
    have c_7 := (ai_lt (a := (ch - 48)) (b := 0) (rfl) (rfl) (by omega) (by omega)).mp c_7
    omega)) (fun c_7 => ?_)
  have c_7 := mt (ai_lt (a := (ch - 48)) (b := 0) (rfl) (rfl) (by omega) (by omega)).mpr c_7
  refine lv_iload_n hx hb dJ26_digit_10 rfl (lv_at hl 0 rfl) ?_
  refine lv_iload_n hx hb dJ26_digit_11 rfl (lv_at hl 3 rfl) ?_
  refine lv_icmp_ge (tgt := 30) hx hb dJ26_digit_12 (by decide) (fun c_12 => False.elim (by
    have c_12 := (ai_le (a := 10) (b := (ch - 48)) (rfl) (rfl) (by omega) (by omega)).mp c_12
    omega)) (fun c_12 => ?_)
  have c_12 := mt (ai_le (a := 10) (b := (ch - 48)) (rfl) (rfl) (by omega) (by omega)).mpr c_12
  refine lv_iload_n hx hb dJ26_digit_15 rfl (lv_at hl 3 rfl) ?_
  refine lv_iconst (v := 2) hx hb dJ26_digit_16 (by decide) ?_
  refine lv_icmp_lt (tgt := 30) hx hb dJ26_digit_17 (by decide) (fun c_17 => absurd c_17 (by decide)) (fun c_17 => ?_)
  refine lv_iload_n hx hb dJ26_digit_20 rfl (lv_at hl 3 rfl) ?_
  refine lv_bipush (v := 36) hx hb dJ26_digit_21 (by decide) ?_
  refine lv_icmp_gt (tgt := 30) hx hb dJ26_digit_23 (by decide) (fun c_23 => absurd c_23 (by decide)) (fun c_23 => ?_)
  refine lv_iload_n hx hb dJ26_digit_26 rfl (lv_at hl 0 rfl) ?_
  refine lv_goto (tgt := 31) hx hb dJ26_digit_27 (by decide) ?_
  refine g_iretP hx hb hr hlocks ?_ dJ26_digit_31
  rfl
set_option maxHeartbeats 1000000 in
theorem m_digitII (l : Launch) (z : State) (H0 : Heap)  (ch : Nat) {A : Nat → Prop} (k : Nat → Nat) (h48 : 48 ≤ ch) (h58 : ch < 58) (hg : sG z k A H0) (hzw : zW z) : Met l yJ19_digit_2 (ws_ yJ19_digit_2 cJ19_digit_2 2 (some .int)) { frames := 1, cells := 0, slots := 0, locals := 23 } (gPc z H0 [.int (nI ch), .int 10]) (gPi H0 (fun r => r = nI (ch - 48))) 0 0 gno := by
  refine g_start (by decide +kernel) (Nat.le_of_ble_eq_true rfl) ?_
  intro p e s m below meth c ls hx hb hr hlocks hml hown hname hts hwm hl
  have hown : s.vm.findClass "java/lang/Character" = some m.cls := hown
  have hal : z.vm.Alike s.vm := hwm.alike
  have hCF : CallFix p m c cJ19_digit_2 2 s [.int (nI ch), .int 10].toArray lw_all "java/lang/Character" := ⟨hx, hb, hml, hown, hts⟩
  have hl : lv_has ls 2 [(0, .int (nI ch)), (1, .int 10)] := hl
  refine lv_iload_n hx hb dJ19_digit_2_0 rfl (lv_at hl 0 rfl) ?_
  refine gcS1_rP hCF hwm hl.1 (m_cdOf l z H0  ch k (by omega) hg ) (lw_S q1415 q1416 q86 q1417) yd_J25_of ⟨Nat.le_of_ble_eq_true rfl, Nat.le_of_ble_eq_true rfl⟩ ⟨Nat.le_of_ble_eq_true rfl, Nat.le_of_ble_eq_true rfl⟩ (Nat.le_of_ble_eq_true rfl) dJ19_digit_2_1 (fun r_1 hp => ?_)
  subst hp
  refine lv_iload_n hx hb dJ19_digit_2_4 rfl (lv_at hl 0 rfl) ?_
  refine lv_iload_n hx hb dJ19_digit_2_5 rfl (lv_at hl 1 rfl) ?_
  refine gcX2_iP hCF hwm hl.1 (m_digitV l z H0 (k 4) ch k h48 h58 hg ) (va_cwA (owner := "java/lang/CharacterData") (x := ⟨"java/lang/CharacterData", "digit", "(II)I"⟩) 2 hts (lw_app (lw_list5 q1420 q1422 q1423 q1424 q87) (lw_meth q1425)) rfl rfl rfl (va_Nw.warmD hwm hzw.2.2.2.2.1) ⟨by decide, by decide, by decide +kernel⟩ ⟨Nat.le_of_ble_eq_true rfl, Nat.le_of_ble_eq_true rfl⟩) (gK.recv hg.2.1.1 hal) ⟨Nat.le_of_ble_eq_true rfl, Nat.le_of_ble_eq_true rfl⟩ (Nat.le_of_ble_eq_true rfl) dJ19_digit_2_6 (fun r_2 hp => ?_)
  subst hp
  refine g_iretP hx hb hr hlocks ?_ dJ19_digit_2_9
  rfl
set_option maxHeartbeats 1000000 in
theorem m_digit (l : Launch) (z : State) (H0 : Heap)  (ch : Nat) {A : Nat → Prop} (k : Nat → Nat) (h48 : 48 ≤ ch) (h58 : ch < 58) (hg : sG z k A H0) (hzw : zW z) : Met l yJ19_digit (ws_ yJ19_digit cJ19_digit 2 (some .int)) { frames := 2, cells := 0, slots := 0, locals := 44 } (gPc z H0 [.int (nI ch), .int 10]) (gPi H0 (fun r => r = nI (ch - 48))) 0 0 gno := by
  refine g_start (by decide +kernel) (Nat.le_of_ble_eq_true rfl) ?_
  intro p e s m below meth c ls hx hb hr hlocks hml hown hname hts hwm hl
  have hown : s.vm.findClass "java/lang/Character" = some m.cls := hown
  have hal : z.vm.Alike s.vm := hwm.alike
  have hCF : CallFix p m c cJ19_digit 2 s [.int (nI ch), .int 10].toArray lw_all "java/lang/Character" := ⟨hx, hb, hml, hown, hts⟩
  have hl : lv_has ls 2 [(0, .int (nI ch)), (1, .int 10)] := hl
  refine lv_iload_n hx hb dJ19_digit_0 rfl (lv_at hl 0 rfl) ?_
  refine lv_iload_n hx hb dJ19_digit_1 rfl (lv_at hl 1 rfl) ?_
  refine gcS2_iP hCF hwm hl.1 (m_digitII l z H0  ch k h48 h58 hg hzw ) (lw_S q1412 q1413 q80 q1414) yd_J19_digit_2 ⟨Nat.le_of_ble_eq_true rfl, Nat.le_of_ble_eq_true rfl⟩ ⟨Nat.le_of_ble_eq_true rfl, Nat.le_of_ble_eq_true rfl⟩ (Nat.le_of_ble_eq_true rfl) dJ19_digit_2 (fun r_1 hp => ?_)
  subst hp
  refine g_iretP hx hb hr hlocks ?_ dJ19_digit_5
  rfl
set_option maxHeartbeats 1000000 in
theorem m_objCheck (l : Launch) (z : State) (H0 : Heap)  (u v n : Nat) (hu : u ≤ v) (hv : v ≤ n) (hn : n < 2147483648) : Met l yJ20_checkFromToIndex (ws_ yJ20_checkFromToIndex cJ20_checkFromToIndex 3 (some .int)) { frames := 1, cells := 0, slots := 0, locals := 23 } (gPc z H0 [.int (nI u), .int (nI v), .int (nI n)]) (gPi H0 (fun r => r = nI u)) 0 0 gno := by
  refine g_start (by decide +kernel) (Nat.le_of_ble_eq_true rfl) ?_
  intro p e s m below meth c ls hx hb hr hlocks hml hown hname hts hwm hl
  have hown : s.vm.findClass "java/util/Objects" = some m.cls := hown
  have hal : z.vm.Alike s.vm := hwm.alike
  have hCF : CallFix p m c cJ20_checkFromToIndex 3 s [.int (nI u), .int (nI v), .int (nI n)].toArray lw_all "java/util/Objects" := ⟨hx, hb, hml, hown, hts⟩
  have hl : lv_has ls 3 [(0, .int (nI u)), (1, .int (nI v)), (2, .int (nI n))] := hl
  refine lv_iload_n hx hb dJ20_checkFromToIndex_0 rfl (lv_at hl 0 rfl) ?_
  refine lv_iload_n hx hb dJ20_checkFromToIndex_1 rfl (lv_at hl 1 rfl) ?_
  refine lv_iload_n hx hb dJ20_checkFromToIndex_2 rfl (lv_at hl 2 rfl) ?_
  refine lv_null hx hb dJ20_checkFromToIndex_3 ?_
  refine gcS4_iP hCF hwm hl.1 (m_checkFT l z H0 .null u v n hu hv hn (Or.inl rfl) ) (lw_S q632 q310 q75 q311) yd_J14_checkFromToIndex ⟨Nat.le_of_ble_eq_true rfl, Nat.le_of_ble_eq_true rfl⟩ ⟨Nat.le_of_ble_eq_true rfl, Nat.le_of_ble_eq_true rfl⟩ (Nat.le_of_ble_eq_true rfl) dJ20_checkFromToIndex_4 (fun r_1 hp => ?_)
  subst hp
  refine g_iretP hx hb hr hlocks ?_ dJ20_checkFromToIndex_7
  rfl
set_option maxHeartbeats 1000000 in
theorem m_nonNull (l : Launch) (z : State) (H0 : Heap) (a : Nat)   : Met l yJ20_requireNonNull (ws_ yJ20_requireNonNull cJ20_requireNonNull 1 (some (.object "java/lang/Object"))) { frames := 0, cells := 0, slots := 0, locals := 0 } (gPc z H0 [.ref a]) (gPr H0 (fun r => r = a)) 0 0 gno := by
  refine g_start (by decide +kernel) (Nat.le_of_ble_eq_true rfl) ?_
  intro p e s m below meth c ls hx hb hr hlocks hml hown hname hts hwm hl
  have hown : s.vm.findClass "java/util/Objects" = some m.cls := hown
  have hal : z.vm.Alike s.vm := hwm.alike
  have hCF : CallFix p m c cJ20_requireNonNull 1 s [.ref a].toArray lw_all "java/util/Objects" := ⟨hx, hb, hml, hown, hts⟩
  have hl : lv_has ls 1 [(0, .ref a)] := hl
  refine lv_aload_n hx hb dJ20_requireNonNull_0 rfl (lv_at hl 0 rfl) ?_
  refine lv_ifnonnull (tgt := 12) hx hb dJ20_requireNonNull_1 (by decide) ?_
  refine lv_aload_n hx hb dJ20_requireNonNull_12 rfl (lv_at hl 0 rfl) ?_
  refine g_aretP hx hb hr hlocks (Or.inl ⟨_, rfl⟩) ?_ dJ20_requireNonNull_13
  rfl
set_option maxHeartbeats 1000000 in
theorem m_parseJ3 (l : Launch) (z : State) (H0 : Heap) (a : Nat) (v : Int)  (w : Bool) (b : Nat) (T : List Nat) {A : Nat → Prop} (k : Nat → Nat) (fv : Nat → Value) (hv1 : -9223372036854775807 ≤ v) (hv2 : v ≤ 9223372036854775807) (hnum : numAt T 0 v) (hlen : T.length = mn v + nd v.natAbs) (hstr : gS z w H0 a b T) (hs : sS z k fv A H0) (hg : sG z k A H0) (hzw : zW z) : Met l yJ16_parseLong_3 (ws_ yJ16_parseLong_3 cJ16_parseLong_3 13 (some .long)) { frames := 4, cells := 0, slots := 0, locals := 85 } (gPc z H0 [.ref a, .int 10]) (gPl H0 (fun r => r = lI v)) 0 0 gno := by
  refine g_start (by decide +kernel) (Nat.le_of_ble_eq_true rfl) ?_
  intro p e s m below meth c ls hx hb hr hlocks hml hown hname hts hwm hl
  have hown : s.vm.findClass "java/lang/Long" = some m.cls := hown
  have hal : z.vm.Alike s.vm := hwm.alike
  have hCF : CallFix p m c cJ16_parseLong_3 13 s [.ref a, .int 10].toArray lw_all "java/lang/Long" := ⟨hx, hb, hml, hown, hts⟩
  have hl : lv_has ls 13 [(0, .ref a), (1, .int 10)] := hl
  obtain ⟨h, hzz, hO, hB, hT⟩ := hstr
  obtain ⟨hn1, hn2, hn3⟩ := hnum
  have hT1 := hT.1
  have hnp := nd_pos v.natAbs
  have hmn1 := mn_b v
  have hc0 := tx_at hT 0
  refine lv_aload_n hx hb dJ16_parseLong_3_0 rfl (lv_at hl 0 rfl) ?_
  refine lv_ifnonnull (tgt := 14) hx hb dJ16_parseLong_3_1 (by decide) ?_
  refine lv_iload_n hx hb dJ16_parseLong_3_14 rfl (lv_at hl 1 rfl) ?_
  refine lv_iconst (v := 2) hx hb dJ16_parseLong_3_15 (by decide) ?_
  refine lv_icmp_ge (tgt := 51) hx hb dJ16_parseLong_3_16 (by decide) (fun c_16 => ?_) (fun c_16 => absurd (by decide) c_16)
  refine lv_iload_n hx hb dJ16_parseLong_3_51 rfl (lv_at hl 1 rfl) ?_
  refine lv_bipush (v := 36) hx hb dJ16_parseLong_3_52 (by decide) ?_
  refine lv_icmp_le (tgt := 89) hx hb dJ16_parseLong_3_54 (by decide) (fun c_54 => ?_) (fun c_54 => absurd (by decide) c_54)
  refine lv_iconst (v := 0) hx hb dJ16_parseLong_3_89 (by decide) ?_
  refine lv_istore_n hx hb dJ16_parseLong_3_90 rfl hl (by decide) rfl (fun ls hl => ?_)
  have hl : lv_has ls 13 [(2, .int 0), (0, .ref a), (1, .int 10)] := hl
  refine lv_iconst (v := 0) hx hb dJ16_parseLong_3_91 (by decide) ?_
  refine lv_istore_n hx hb dJ16_parseLong_3_92 rfl hl (by decide) rfl (fun ls hl => ?_)
  have hl : lv_has ls 13 [(3, .int 0), (2, .int 0), (0, .ref a), (1, .int 10)] := hl
  refine lv_aload_n hx hb dJ16_parseLong_3_93 rfl (lv_at hl 2 rfl) ?_
  refine gcV0_iP hCF hwm hl.1 (m_length l z H0 a w b T k fv ⟨h, hzz, hO, hB, hT⟩ hs ) (lw_V q1851 q219 q220 q64 q221) ydv_J5_length (hO.recv hal) ⟨Nat.le_of_ble_eq_true rfl, Nat.le_of_ble_eq_true rfl⟩ ⟨Nat.le_of_ble_eq_true rfl, Nat.le_of_ble_eq_true rfl⟩ (Nat.le_of_ble_eq_true rfl) dJ16_parseLong_3_94 (fun r_1 hp => ?_)
  subst hp
  refine lv_istore hx hb dJ16_parseLong_3_97 hl (by decide) rfl (fun ls hl => ?_)
  have hl : lv_has ls 13 [(4, .int (nI T.length)), (3, .int 0), (2, .int 0), (0, .ref a), (1, .int 10)] := hl
  refine lv_ldc2 (v := -9223372036854775807) hx hb hown (hts _ q658) dJ16_parseLong_3_99 ?_
  refine lv_lstore hx hb dJ16_parseLong_3_102 hl (by decide) rfl (fun ls hl => ?_)
  have hl : lv_has ls 13 [(5, .long (-9223372036854775807)), (4, .int (nI T.length)), (3, .int 0), (2, .int 0), (0, .ref a), (1, .int 10)] := hl
  refine lv_iload hx hb dJ16_parseLong_3_104 (lv_at hl 1 rfl) ?_
  refine lv_if_le (tgt := 266) hx hb dJ16_parseLong_3_106 (by decide) (fun c_106 => False.elim (by
    have c_106 := (ai_le (a := T.length) (b := 0) (rfl) (rfl) (by omega) (by omega)).mp c_106
    omega)) (fun c_106 => ?_)
  have c_106 := mt (ai_le (a := T.length) (b := 0) (rfl) (rfl) (by omega) (by omega)).mpr c_106
  refine lv_aload_n hx hb dJ16_parseLong_3_109 rfl (lv_at hl 4 rfl) ?_
  refine lv_iconst (v := 0) hx hb dJ16_parseLong_3_110 (by decide) ?_
  refine gcV1_iP hCF hwm hl.1 (m_charAt l z H0 a (0) w b T k fv (by omega) ⟨h, hzz, hO, hB, hT⟩ hs ) (lw_V q1852 q539 q540 q64 q541) ydv_J5_charAt (hO.recv hal) ⟨Nat.le_of_ble_eq_true rfl, Nat.le_of_ble_eq_true rfl⟩ ⟨Nat.le_of_ble_eq_true rfl, Nat.le_of_ble_eq_true rfl⟩ (Nat.le_of_ble_eq_true rfl) dJ16_parseLong_3_111 (fun r_2 hp => ?_)
  subst hp
  refine lv_istore hx hb dJ16_parseLong_3_114 hl (by decide) rfl (fun ls hl => ?_)
  have hl : lv_has ls 13 [(7, .int (nI (T.getD (0) 0))), (5, .long (-9223372036854775807)), (4, .int (nI T.length)), (3, .int 0), (2, .int 0), (0, .ref a), (1, .int 10)] := hl
  refine lv_iload hx hb dJ16_parseLong_3_116 (lv_at hl 0 rfl) ?_
  refine lv_bipush (v := 48) hx hb dJ16_parseLong_3_118 (by decide) ?_
  refine lv_icmp_ge (tgt := 168) hx hb dJ16_parseLong_3_120 (by decide) (fun c_120 => ?_) (fun c_120 => ?_)
  · skip
    have c_120 := (ai_le (a := 48) (b := (T.getD (0) 0)) (rfl) (rfl) (by omega) (by omega)).mp c_120
    have hv : ¬ v < 0 := fun q => by
      have := hn1 q
      omega
    have hmn : mn v = 0 := if_neg hv
    refine lv_lload hx hb dJ16_parseLong_3_168 (lv_at hl 1 rfl) ?_
    refine lv_iload_n hx hb dJ16_parseLong_3_170 rfl (lv_at hl 6 rfl) ?_
    refine lv_i2l hx hb dJ16_parseLong_3_171 rfl ?_
    refine g_topl (v := lN 10) (ai_i2l (rfl) (by omega)) ?_
    refine lv_ldiv hx hb dJ16_parseLong_3_172 (by decide) ?_
    refine g_topl (v := (-922337203685477580)) (by decide) ?_
    refine lv_lstore hx hb dJ16_parseLong_3_173 hl (by decide) rfl (fun ls hl => ?_)
    have hl : lv_has ls 13 [(8, .long (-922337203685477580)), (7, .int (nI (T.getD (0) 0))), (5, .long (-9223372036854775807)), (4, .int (nI T.length)), (3, .int 0), (2, .int 0), (0, .ref a), (1, .int 10)] := hl
    refine lv_lconst (v := 0) hx hb dJ16_parseLong_3_175 (by decide) ?_
    refine lv_lstore hx hb dJ16_parseLong_3_176 hl (by decide) rfl (fun ls hl => ?_)
    have hl : lv_has ls 13 [(10, .long 0), (8, .long (-922337203685477580)), (7, .int (nI (T.getD (0) 0))), (5, .long (-9223372036854775807)), (4, .int (nI T.length)), (3, .int 0), (2, .int 0), (0, .ref a), (1, .int 10)] := hl
    replace hl : lv_has ls 13 [(10, .long (lI (-(pfx v.natAbs 0 : Int)))), (8, .long (-922337203685477580)), (7, .int (nI (T.getD (0) 0))), (5, .long (-9223372036854775807)), (4, .int (nI T.length)), (3, .int (nI 0)), (2, .int 0), (0, .ref a), (1, .int 10)] := by
      rw [pfx_0]
      exact hl
    have loop0 : ∀ (n_ : Nat) (t : Nat), (t ≤ nd v.natAbs) → (nd v.natAbs - t) < n_ → ∀ (ls : Array Slot), lv_has ls 13 [(10, .long (lI (-(pfx v.natAbs t : Int)))), (8, .long (-922337203685477580)), (5, .long (-9223372036854775807)), (4, .int (nI T.length)), (3, .int (nI t)), (2, .int 0), (0, .ref a), (1, .int 10)] → W p l e { frames := 4, cells := 0, slots := 0, locals := 85 } s m [.ref a, .int 10].toArray below meth c H0 [] 0 0 (MQ below (gPl H0 (fun r => r = lI v)) [.ref a, .int 10].toArray s 0 0 (gno)) (F0 m 178 ls []) := by
      intro n_
      induction n_ with
      | zero => intro t ht hm_; exact absurd hm_ (Nat.not_lt_zero _)
      | succ n_ ih_loop0 =>
        intro t ht hm_ ls hl
        refine lv_iload_n hx hb dJ16_parseLong_3_178 rfl (lv_at hl 4 rfl) ?_
        refine lv_iload hx hb dJ16_parseLong_3_179 (lv_at hl 3 rfl) ?_
        refine lv_icmp_ge (tgt := 253) hx hb dJ16_parseLong_3_181 (by decide) (fun c_181 => ?_) (fun c_181 => ?_)
        · skip
          have c_181 := (ai_le (a := T.length) (b := t) (rfl) (rfl) (by omega) (by omega)).mp c_181
          refine lv_iload_n hx hb dJ16_parseLong_3_253 rfl (lv_at hl 5 rfl) ?_
          refine lv_if_eq (tgt := 262) hx hb dJ16_parseLong_3_254 (by decide) (fun c_254 => ?_) (fun c_254 => absurd (by decide) c_254)
          refine lv_lload hx hb dJ16_parseLong_3_262 (lv_at hl 0 rfl) ?_
          refine lv_lneg hx hb dJ16_parseLong_3_264 ?_
          refine g_topl (v := lI (-(-(pfx v.natAbs t : Int)))) (ai_negLI (rfl)) ?_
          refine g_lretP hx hb hr hlocks ?_ dJ16_parseLong_3_265
          have e1 : t = nd v.natAbs := by omega
          subst e1
          rw [pfx_end]
          exact congrArg lI (by omega)
        · skip
          have c_181 := mt (ai_le (a := T.length) (b := t) (rfl) (rfl) (by omega) (by omega)).mpr c_181
          have ht2 : t < nd v.natAbs := by omega
          have hd1 := dgt_lt v.natAbs t
          have hd2 := hn2 t ht2
          have hd3 := pfx_s ht2
          have hd4 := pfx_le v.natAbs (t + 1)
          refine lv_aload_n hx hb dJ16_parseLong_3_184 rfl (lv_at hl 6 rfl) ?_
          refine lv_iload_n hx hb dJ16_parseLong_3_185 rfl (lv_at hl 4 rfl) ?_
          refine lv_iinc (k := 4) (v := (nI (t + 1))) hx hb dJ16_parseLong_3_186 hl rfl (ai_add (rfl) (show Int32.ofInt 1 = nI 1 by decide)) (by decide) rfl (fun ls hl => ?_)
          have hl : lv_has ls 13 [(3, .int (nI (t + 1))), (10, .long (lI (-(pfx v.natAbs t : Int)))), (8, .long (-922337203685477580)), (5, .long (-9223372036854775807)), (4, .int (nI T.length)), (2, .int 0), (0, .ref a), (1, .int 10)] := hl
          refine gcV1_iP hCF hwm hl.1 (m_charAt l z H0 a (t) w b T k fv (by omega) ⟨h, hzz, hO, hB, hT⟩ hs ) (lw_V q1852 q539 q540 q64 q541) ydv_J5_charAt (hO.recv hal) ⟨Nat.le_of_ble_eq_true rfl, Nat.le_of_ble_eq_true rfl⟩ ⟨Nat.le_of_ble_eq_true rfl, Nat.le_of_ble_eq_true rfl⟩ (Nat.le_of_ble_eq_true rfl) dJ16_parseLong_3_189 (fun r_3 hp => ?_)
          subst hp
          rw [show t = 0 + mn v + t by omega, hd2]
          refine lv_iload_n hx hb dJ16_parseLong_3_192 rfl (lv_at hl 7 rfl) ?_
          refine gcS2_iP hCF hwm hl.1 (m_digit l z H0  (48 + dgt v.natAbs t) k (by omega) (by omega) hg hzw ) (lw_S q1409 q1410 q80 q1411) yd_J19_digit ⟨Nat.le_of_ble_eq_true rfl, Nat.le_of_ble_eq_true rfl⟩ ⟨Nat.le_of_ble_eq_true rfl, Nat.le_of_ble_eq_true rfl⟩ (Nat.le_of_ble_eq_true rfl) dJ16_parseLong_3_193 (fun r_4 hp => ?_)
          subst hp
          rw [show 48 + dgt v.natAbs t - 48 = dgt v.natAbs t by omega]
          refine lv_istore hx hb dJ16_parseLong_3_196 hl (by decide) rfl (fun ls hl => ?_)
          have hl : lv_has ls 13 [(12, .int (nI (dgt v.natAbs t))), (3, .int (nI (t + 1))), (10, .long (lI (-(pfx v.natAbs t : Int)))), (8, .long (-922337203685477580)), (5, .long (-9223372036854775807)), (4, .int (nI T.length)), (2, .int 0), (0, .ref a), (1, .int 10)] := hl
          refine lv_iload hx hb dJ16_parseLong_3_198 (lv_at hl 0 rfl) ?_
          refine lv_if_lt (tgt := 211) hx hb dJ16_parseLong_3_200 (by decide) (fun c_200 => False.elim (by
            have c_200 := (ai_lt (a := (dgt v.natAbs t)) (b := 0) (rfl) (rfl) (by omega) (by omega)).mp c_200
            omega)) (fun c_200 => ?_)
          have c_200 := mt (ai_lt (a := (dgt v.natAbs t)) (b := 0) (rfl) (rfl) (by omega) (by omega)).mpr c_200
          refine lv_lload hx hb dJ16_parseLong_3_203 (lv_at hl 2 rfl) ?_
          refine lv_lload hx hb dJ16_parseLong_3_205 (lv_at hl 3 rfl) ?_
          refine W.lcmp hx hb dJ16_parseLong_3_207 ?_
          refine lv_if_ge (tgt := 217) hx hb dJ16_parseLong_3_208 (by decide) (fun c_208 => ?_) (fun c_208 => False.elim (by
            have c_208 := mt (ai_cge (a := (-(pfx v.natAbs t : Int))) (b := (-922337203685477580)) (rfl) (by decide) (by omega) (by omega) (by omega) (by omega)).mpr c_208
            omega))
          have c_208 := (ai_cge (a := (-(pfx v.natAbs t : Int))) (b := (-922337203685477580)) (rfl) (by decide) (by omega) (by omega) (by omega) (by omega)).mp c_208
          refine lv_lload hx hb dJ16_parseLong_3_217 (lv_at hl 2 rfl) ?_
          refine lv_iload_n hx hb dJ16_parseLong_3_219 rfl (lv_at hl 8 rfl) ?_
          refine lv_i2l hx hb dJ16_parseLong_3_220 rfl ?_
          refine g_topl (v := lN 10) (ai_i2l (rfl) (by omega)) ?_
          refine lv_lmul hx hb dJ16_parseLong_3_221 ?_
          refine g_topl (v := lI ((-(pfx v.natAbs t : Int)) * (10 : Nat))) (ai_mulLI (a := (-(pfx v.natAbs t : Int))) (b := (10 : Nat)) (rfl) (lN_lI _)) ?_
          refine lv_lstore hx hb dJ16_parseLong_3_222 hl (by decide) rfl (fun ls hl => ?_)
          have hl : lv_has ls 13 [(10, .long (lI ((-(pfx v.natAbs t : Int)) * (10 : Nat)))), (12, .int (nI (dgt v.natAbs t))), (3, .int (nI (t + 1))), (8, .long (-922337203685477580)), (5, .long (-9223372036854775807)), (4, .int (nI T.length)), (2, .int 0), (0, .ref a), (1, .int 10)] := hl
          refine lv_lload hx hb dJ16_parseLong_3_224 (lv_at hl 0 rfl) ?_
          refine lv_lload hx hb dJ16_parseLong_3_226 (lv_at hl 4 rfl) ?_
          refine lv_iload hx hb dJ16_parseLong_3_228 (lv_at hl 1 rfl) ?_
          refine lv_i2l hx hb dJ16_parseLong_3_230 rfl ?_
          refine g_topl (v := lN (dgt v.natAbs t)) (ai_i2l (rfl) (by omega)) ?_
          refine lv_ladd hx hb dJ16_parseLong_3_231 ?_
          refine g_topl (v := lI ((-9223372036854775807) + ((dgt v.natAbs t) : Nat))) (ai_addLI (a := (-9223372036854775807)) (b := ((dgt v.natAbs t) : Nat)) (by decide) (lN_lI _)) ?_
          refine W.lcmp hx hb dJ16_parseLong_3_232 ?_
          refine lv_if_ge (tgt := 242) hx hb dJ16_parseLong_3_233 (by decide) (fun c_233 => ?_) (fun c_233 => False.elim (by
            have c_233 := mt (ai_cge (a := ((-(pfx v.natAbs t : Int)) * (10 : Nat))) (b := ((-9223372036854775807) + ((dgt v.natAbs t) : Nat))) (rfl) (rfl) (by omega) (by omega) (by omega) (by omega)).mpr c_233
            omega))
          have c_233 := (ai_cge (a := ((-(pfx v.natAbs t : Int)) * (10 : Nat))) (b := ((-9223372036854775807) + ((dgt v.natAbs t) : Nat))) (rfl) (rfl) (by omega) (by omega) (by omega) (by omega)).mp c_233
          refine lv_lload hx hb dJ16_parseLong_3_242 (lv_at hl 0 rfl) ?_
          refine lv_iload hx hb dJ16_parseLong_3_244 (lv_at hl 1 rfl) ?_
          refine lv_i2l hx hb dJ16_parseLong_3_246 rfl ?_
          refine g_topl (v := lN (dgt v.natAbs t)) (ai_i2l (rfl) (by omega)) ?_
          refine lv_lsub hx hb dJ16_parseLong_3_247 ?_
          refine g_topl (v := lI (((-(pfx v.natAbs t : Int)) * (10 : Nat)) - ((dgt v.natAbs t) : Nat))) (ai_subLI (a := ((-(pfx v.natAbs t : Int)) * (10 : Nat))) (b := ((dgt v.natAbs t) : Nat)) (rfl) (lN_lI _)) ?_
          refine lv_lstore hx hb dJ16_parseLong_3_248 hl (by decide) rfl (fun ls hl => ?_)
          have hl : lv_has ls 13 [(10, .long (lI (((-(pfx v.natAbs t : Int)) * (10 : Nat)) - ((dgt v.natAbs t) : Nat)))), (12, .int (nI (dgt v.natAbs t))), (3, .int (nI (t + 1))), (8, .long (-922337203685477580)), (5, .long (-9223372036854775807)), (4, .int (nI T.length)), (2, .int 0), (0, .ref a), (1, .int 10)] := hl
          refine lv_goto (tgt := 178) hx hb dJ16_parseLong_3_250 (by decide) ?_
          replace hl : lv_has ls 13 [(10, .long (lI (-(pfx v.natAbs (t + 1) : Int)))), (12, .int (nI (dgt v.natAbs t))), (3, .int (nI (t + 1))), (8, .long (-922337203685477580)), (5, .long (-9223372036854775807)), (4, .int (nI T.length)), (2, .int 0), (0, .ref a), (1, .int 10)] := by
            rw [pfx_s ht2, show -((10 * pfx v.natAbs t + dgt v.natAbs t : Nat) : Int) = (-(pfx v.natAbs t : Int)) * (10 : Nat) - (dgt v.natAbs t : Nat) by omega]
            exact hl
          exact ih_loop0 (t + 1) (by omega) (by omega) ls (lv_sub hl [0, 3, 4, 5, 2, 6, 7, 8] rfl)
    exact loop0 _ 0 (Nat.zero_le _) (Nat.lt_succ_self _) ls (lv_sub hl [0, 1, 3, 4, 5, 6, 7, 8] rfl)
  · skip
    have c_120 := mt (ai_le (a := 48) (b := (T.getD (0) 0)) (rfl) (rfl) (by omega) (by omega)).mpr c_120
    have hv : v < 0 := by
      refine Decidable.byContradiction fun q => ?_
      have := hn2 0 (nd_pos _)
      rw [show mn v = 0 from if_neg q] at this
      simp only [Nat.add_zero] at this
      omega
    have hmn : mn v = 1 := if_pos hv
    have h45 := hn1 hv
    refine lv_iload hx hb dJ16_parseLong_3_123 (lv_at hl 0 rfl) ?_
    refine lv_bipush (v := 45) hx hb dJ16_parseLong_3_125 (by decide) ?_
    refine lv_icmp_ne (tgt := 140) hx hb dJ16_parseLong_3_127 (by decide) (fun c_127 => False.elim (by
      have c_127 := mt (ai_eq (a := (T.getD (0) 0)) (b := 45) (rfl) (rfl) (by omega) (by omega)).mpr c_127
      omega)) (fun c_127 => ?_)
    have c_127 := (ai_eq (a := (T.getD (0) 0)) (b := 45) (rfl) (rfl) (by omega) (by omega)).mp c_127
    refine lv_iconst (v := 1) hx hb dJ16_parseLong_3_130 (by decide) ?_
    refine lv_istore_n hx hb dJ16_parseLong_3_131 rfl hl (by decide) rfl (fun ls hl => ?_)
    have hl : lv_has ls 13 [(2, .int 1), (7, .int (nI (T.getD (0) 0))), (5, .long (-9223372036854775807)), (4, .int (nI T.length)), (3, .int 0), (0, .ref a), (1, .int 10)] := hl
    refine lv_ldc2 (v := -9223372036854775808) hx hb hown (hts _ q677) dJ16_parseLong_3_132 ?_
    refine lv_lstore hx hb dJ16_parseLong_3_135 hl (by decide) rfl (fun ls hl => ?_)
    have hl : lv_has ls 13 [(5, .long (-9223372036854775808)), (2, .int 1), (7, .int (nI (T.getD (0) 0))), (4, .int (nI T.length)), (3, .int 0), (0, .ref a), (1, .int 10)] := hl
    refine lv_goto (tgt := 153) hx hb dJ16_parseLong_3_137 (by decide) ?_
    refine lv_iload hx hb dJ16_parseLong_3_153 (lv_at hl 3 rfl) ?_
    refine lv_iconst (v := 1) hx hb dJ16_parseLong_3_155 (by decide) ?_
    refine lv_icmp_ne (tgt := 165) hx hb dJ16_parseLong_3_156 (by decide) (fun c_156 => ?_) (fun c_156 => False.elim (by
      have c_156 := (ai_eq (a := T.length) (b := 1) (rfl) (rfl) (by omega) (by omega)).mp c_156
      omega))
    have c_156 := mt (ai_eq (a := T.length) (b := 1) (rfl) (rfl) (by omega) (by omega)).mpr c_156
    refine lv_iinc (k := 4) (v := (nI 1)) hx hb dJ16_parseLong_3_165 hl rfl (ai_add (rfl) (show Int32.ofInt 1 = nI 1 by decide)) (by decide) rfl (fun ls hl => ?_)
    have hl : lv_has ls 13 [(3, .int (nI 1)), (5, .long (-9223372036854775808)), (2, .int 1), (7, .int (nI (T.getD (0) 0))), (4, .int (nI T.length)), (0, .ref a), (1, .int 10)] := hl
    refine lv_lload hx hb dJ16_parseLong_3_168 (lv_at hl 1 rfl) ?_
    refine lv_iload_n hx hb dJ16_parseLong_3_170 rfl (lv_at hl 6 rfl) ?_
    refine lv_i2l hx hb dJ16_parseLong_3_171 rfl ?_
    refine g_topl (v := lN 10) (ai_i2l (rfl) (by omega)) ?_
    refine lv_ldiv hx hb dJ16_parseLong_3_172 (by decide) ?_
    refine g_topl (v := (-922337203685477580)) (by decide) ?_
    refine lv_lstore hx hb dJ16_parseLong_3_173 hl (by decide) rfl (fun ls hl => ?_)
    have hl : lv_has ls 13 [(8, .long (-922337203685477580)), (3, .int (nI 1)), (5, .long (-9223372036854775808)), (2, .int 1), (7, .int (nI (T.getD (0) 0))), (4, .int (nI T.length)), (0, .ref a), (1, .int 10)] := hl
    refine lv_lconst (v := 0) hx hb dJ16_parseLong_3_175 (by decide) ?_
    refine lv_lstore hx hb dJ16_parseLong_3_176 hl (by decide) rfl (fun ls hl => ?_)
    have hl : lv_has ls 13 [(10, .long 0), (8, .long (-922337203685477580)), (3, .int (nI 1)), (5, .long (-9223372036854775808)), (2, .int 1), (7, .int (nI (T.getD (0) 0))), (4, .int (nI T.length)), (0, .ref a), (1, .int 10)] := hl
    replace hl : lv_has ls 13 [(10, .long (lI (-(pfx v.natAbs 0 : Int)))), (8, .long (-922337203685477580)), (3, .int (nI (1 + 0))), (5, .long (-9223372036854775808)), (2, .int 1), (7, .int (nI (T.getD (0) 0))), (4, .int (nI T.length)), (0, .ref a), (1, .int 10)] := by
      rw [pfx_0]
      exact hl
    have loop1 : ∀ (n_ : Nat) (t : Nat), (t ≤ nd v.natAbs) → (nd v.natAbs - t) < n_ → ∀ (ls : Array Slot), lv_has ls 13 [(10, .long (lI (-(pfx v.natAbs t : Int)))), (8, .long (-922337203685477580)), (3, .int (nI (1 + t))), (5, .long (-9223372036854775808)), (2, .int 1), (4, .int (nI T.length)), (0, .ref a), (1, .int 10)] → W p l e { frames := 4, cells := 0, slots := 0, locals := 85 } s m [.ref a, .int 10].toArray below meth c H0 [] 0 0 (MQ below (gPl H0 (fun r => r = lI v)) [.ref a, .int 10].toArray s 0 0 (gno)) (F0 m 178 ls []) := by
      intro n_
      induction n_ with
      | zero => intro t ht hm_; exact absurd hm_ (Nat.not_lt_zero _)
      | succ n_ ih_loop1 =>
        intro t ht hm_ ls hl
        refine lv_iload_n hx hb dJ16_parseLong_3_178 rfl (lv_at hl 2 rfl) ?_
        refine lv_iload hx hb dJ16_parseLong_3_179 (lv_at hl 5 rfl) ?_
        refine lv_icmp_ge (tgt := 253) hx hb dJ16_parseLong_3_181 (by decide) (fun c_181 => ?_) (fun c_181 => ?_)
        · skip
          have c_181 := (ai_le (a := T.length) (b := (1 + t)) (rfl) (rfl) (by omega) (by omega)).mp c_181
          refine lv_iload_n hx hb dJ16_parseLong_3_253 rfl (lv_at hl 4 rfl) ?_
          refine lv_if_eq (tgt := 262) hx hb dJ16_parseLong_3_254 (by decide) (fun c_254 => absurd c_254 (by decide)) (fun c_254 => ?_)
          refine lv_lload hx hb dJ16_parseLong_3_257 (lv_at hl 0 rfl) ?_
          refine lv_goto (tgt := 265) hx hb dJ16_parseLong_3_259 (by decide) ?_
          refine g_lretP hx hb hr hlocks ?_ dJ16_parseLong_3_265
          have e1 : t = nd v.natAbs := by omega
          subst e1
          rw [pfx_end]
          exact congrArg lI (by omega)
        · skip
          have c_181 := mt (ai_le (a := T.length) (b := (1 + t)) (rfl) (rfl) (by omega) (by omega)).mpr c_181
          have ht2 : t < nd v.natAbs := by omega
          have hd1 := dgt_lt v.natAbs t
          have hd2 := hn2 t ht2
          have hd3 := pfx_s ht2
          have hd4 := pfx_le v.natAbs (t + 1)
          refine lv_aload_n hx hb dJ16_parseLong_3_184 rfl (lv_at hl 6 rfl) ?_
          refine lv_iload_n hx hb dJ16_parseLong_3_185 rfl (lv_at hl 2 rfl) ?_
          refine lv_iinc (k := 2) (v := (nI (1 + t + 1))) hx hb dJ16_parseLong_3_186 hl rfl (ai_add (rfl) (show Int32.ofInt 1 = nI 1 by decide)) (by decide) rfl (fun ls hl => ?_)
          have hl : lv_has ls 13 [(3, .int (nI (1 + t + 1))), (10, .long (lI (-(pfx v.natAbs t : Int)))), (8, .long (-922337203685477580)), (5, .long (-9223372036854775808)), (2, .int 1), (4, .int (nI T.length)), (0, .ref a), (1, .int 10)] := hl
          refine gcV1_iP hCF hwm hl.1 (m_charAt l z H0 a (1 + t) w b T k fv (by omega) ⟨h, hzz, hO, hB, hT⟩ hs ) (lw_V q1852 q539 q540 q64 q541) ydv_J5_charAt (hO.recv hal) ⟨Nat.le_of_ble_eq_true rfl, Nat.le_of_ble_eq_true rfl⟩ ⟨Nat.le_of_ble_eq_true rfl, Nat.le_of_ble_eq_true rfl⟩ (Nat.le_of_ble_eq_true rfl) dJ16_parseLong_3_189 (fun r_5 hp => ?_)
          subst hp
          rw [show 1 + t = 0 + mn v + t by omega, hd2]
          refine lv_iload_n hx hb dJ16_parseLong_3_192 rfl (lv_at hl 7 rfl) ?_
          refine gcS2_iP hCF hwm hl.1 (m_digit l z H0  (48 + dgt v.natAbs t) k (by omega) (by omega) hg hzw ) (lw_S q1409 q1410 q80 q1411) yd_J19_digit ⟨Nat.le_of_ble_eq_true rfl, Nat.le_of_ble_eq_true rfl⟩ ⟨Nat.le_of_ble_eq_true rfl, Nat.le_of_ble_eq_true rfl⟩ (Nat.le_of_ble_eq_true rfl) dJ16_parseLong_3_193 (fun r_6 hp => ?_)
          subst hp
          rw [show 48 + dgt v.natAbs t - 48 = dgt v.natAbs t by omega]
          refine lv_istore hx hb dJ16_parseLong_3_196 hl (by decide) rfl (fun ls hl => ?_)
          have hl : lv_has ls 13 [(12, .int (nI (dgt v.natAbs t))), (3, .int (nI (1 + t + 1))), (10, .long (lI (-(pfx v.natAbs t : Int)))), (8, .long (-922337203685477580)), (5, .long (-9223372036854775808)), (2, .int 1), (4, .int (nI T.length)), (0, .ref a), (1, .int 10)] := hl
          refine lv_iload hx hb dJ16_parseLong_3_198 (lv_at hl 0 rfl) ?_
          refine lv_if_lt (tgt := 211) hx hb dJ16_parseLong_3_200 (by decide) (fun c_200 => False.elim (by
            have c_200 := (ai_lt (a := (dgt v.natAbs t)) (b := 0) (rfl) (rfl) (by omega) (by omega)).mp c_200
            omega)) (fun c_200 => ?_)
          have c_200 := mt (ai_lt (a := (dgt v.natAbs t)) (b := 0) (rfl) (rfl) (by omega) (by omega)).mpr c_200
          refine lv_lload hx hb dJ16_parseLong_3_203 (lv_at hl 2 rfl) ?_
          refine lv_lload hx hb dJ16_parseLong_3_205 (lv_at hl 3 rfl) ?_
          refine W.lcmp hx hb dJ16_parseLong_3_207 ?_
          refine lv_if_ge (tgt := 217) hx hb dJ16_parseLong_3_208 (by decide) (fun c_208 => ?_) (fun c_208 => False.elim (by
            have c_208 := mt (ai_cge (a := (-(pfx v.natAbs t : Int))) (b := (-922337203685477580)) (rfl) (by decide) (by omega) (by omega) (by omega) (by omega)).mpr c_208
            omega))
          have c_208 := (ai_cge (a := (-(pfx v.natAbs t : Int))) (b := (-922337203685477580)) (rfl) (by decide) (by omega) (by omega) (by omega) (by omega)).mp c_208
          refine lv_lload hx hb dJ16_parseLong_3_217 (lv_at hl 2 rfl) ?_
          refine lv_iload_n hx hb dJ16_parseLong_3_219 rfl (lv_at hl 8 rfl) ?_
          refine lv_i2l hx hb dJ16_parseLong_3_220 rfl ?_
          refine g_topl (v := lN 10) (ai_i2l (rfl) (by omega)) ?_
          refine lv_lmul hx hb dJ16_parseLong_3_221 ?_
          refine g_topl (v := lI ((-(pfx v.natAbs t : Int)) * (10 : Nat))) (ai_mulLI (a := (-(pfx v.natAbs t : Int))) (b := (10 : Nat)) (rfl) (lN_lI _)) ?_
          refine lv_lstore hx hb dJ16_parseLong_3_222 hl (by decide) rfl (fun ls hl => ?_)
          have hl : lv_has ls 13 [(10, .long (lI ((-(pfx v.natAbs t : Int)) * (10 : Nat)))), (12, .int (nI (dgt v.natAbs t))), (3, .int (nI (1 + t + 1))), (8, .long (-922337203685477580)), (5, .long (-9223372036854775808)), (2, .int 1), (4, .int (nI T.length)), (0, .ref a), (1, .int 10)] := hl
          refine lv_lload hx hb dJ16_parseLong_3_224 (lv_at hl 0 rfl) ?_
          refine lv_lload hx hb dJ16_parseLong_3_226 (lv_at hl 4 rfl) ?_
          refine lv_iload hx hb dJ16_parseLong_3_228 (lv_at hl 1 rfl) ?_
          refine lv_i2l hx hb dJ16_parseLong_3_230 rfl ?_
          refine g_topl (v := lN (dgt v.natAbs t)) (ai_i2l (rfl) (by omega)) ?_
          refine lv_ladd hx hb dJ16_parseLong_3_231 ?_
          refine g_topl (v := lI ((-9223372036854775808) + ((dgt v.natAbs t) : Nat))) (ai_addLI (a := (-9223372036854775808)) (b := ((dgt v.natAbs t) : Nat)) (by decide) (lN_lI _)) ?_
          refine W.lcmp hx hb dJ16_parseLong_3_232 ?_
          refine lv_if_ge (tgt := 242) hx hb dJ16_parseLong_3_233 (by decide) (fun c_233 => ?_) (fun c_233 => False.elim (by
            have c_233 := mt (ai_cge (a := ((-(pfx v.natAbs t : Int)) * (10 : Nat))) (b := ((-9223372036854775808) + ((dgt v.natAbs t) : Nat))) (rfl) (rfl) (by omega) (by omega) (by omega) (by omega)).mpr c_233
            omega))
          have c_233 := (ai_cge (a := ((-(pfx v.natAbs t : Int)) * (10 : Nat))) (b := ((-9223372036854775808) + ((dgt v.natAbs t) : Nat))) (rfl) (rfl) (by omega) (by omega) (by omega) (by omega)).mp c_233
          refine lv_lload hx hb dJ16_parseLong_3_242 (lv_at hl 0 rfl) ?_
          refine lv_iload hx hb dJ16_parseLong_3_244 (lv_at hl 1 rfl) ?_
          refine lv_i2l hx hb dJ16_parseLong_3_246 rfl ?_
          refine g_topl (v := lN (dgt v.natAbs t)) (ai_i2l (rfl) (by omega)) ?_
          refine lv_lsub hx hb dJ16_parseLong_3_247 ?_
          refine g_topl (v := lI (((-(pfx v.natAbs t : Int)) * (10 : Nat)) - ((dgt v.natAbs t) : Nat))) (ai_subLI (a := ((-(pfx v.natAbs t : Int)) * (10 : Nat))) (b := ((dgt v.natAbs t) : Nat)) (rfl) (lN_lI _)) ?_
          refine lv_lstore hx hb dJ16_parseLong_3_248 hl (by decide) rfl (fun ls hl => ?_)
          have hl : lv_has ls 13 [(10, .long (lI (((-(pfx v.natAbs t : Int)) * (10 : Nat)) - ((dgt v.natAbs t) : Nat)))), (12, .int (nI (dgt v.natAbs t))), (3, .int (nI (1 + t + 1))), (8, .long (-922337203685477580)), (5, .long (-9223372036854775808)), (2, .int 1), (4, .int (nI T.length)), (0, .ref a), (1, .int 10)] := hl
          refine lv_goto (tgt := 178) hx hb dJ16_parseLong_3_250 (by decide) ?_
          replace hl : lv_has ls 13 [(10, .long (lI (-(pfx v.natAbs (t + 1) : Int)))), (12, .int (nI (dgt v.natAbs t))), (3, .int (nI (1 + (t + 1)))), (8, .long (-922337203685477580)), (5, .long (-9223372036854775808)), (2, .int 1), (4, .int (nI T.length)), (0, .ref a), (1, .int 10)] := by
            rw [pfx_s ht2, show -((10 * pfx v.natAbs t + dgt v.natAbs t : Nat) : Int) = (-(pfx v.natAbs t : Int)) * (10 : Nat) - (dgt v.natAbs t : Nat) by omega]
            exact hl
          exact ih_loop1 (t + 1) (by omega) (by omega) ls (lv_sub hl [0, 3, 2, 4, 5, 6, 7, 8] rfl)
    exact loop1 _ 0 (Nat.zero_le _) (Nat.lt_succ_self _) ls (lv_sub hl [0, 1, 2, 3, 4, 6, 7, 8] rfl)
set_option maxHeartbeats 1000000 in
theorem m_parseJ (l : Launch) (z : State) (H0 : Heap) (a : Nat) (v : Int)  (w : Bool) (b : Nat) (T : List Nat) {A : Nat → Prop} (k : Nat → Nat) (fv : Nat → Value) (hv1 : -9223372036854775807 ≤ v) (hv2 : v ≤ 9223372036854775807) (hnum : numAt T 0 v) (hlen : T.length = mn v + nd v.natAbs) (hstr : gS z w H0 a b T) (hs : sS z k fv A H0) (hg : sG z k A H0) (hzw : zW z) : Met l yJ16_parseLong_2 (ws_ yJ16_parseLong_2 cJ16_parseLong_2 1 (some .long)) { frames := 5, cells := 0, slots := 0, locals := 117 } (gPc z H0 [.ref a]) (gPl H0 (fun r => r = lI v)) 0 0 gno := by
  refine g_start (by decide +kernel) (Nat.le_of_ble_eq_true rfl) ?_
  intro p e s m below meth c ls hx hb hr hlocks hml hown hname hts hwm hl
  have hown : s.vm.findClass "java/lang/Long" = some m.cls := hown
  have hal : z.vm.Alike s.vm := hwm.alike
  have hCF : CallFix p m c cJ16_parseLong_2 1 s [.ref a].toArray lw_all "java/lang/Long" := ⟨hx, hb, hml, hown, hts⟩
  have hl : lv_has ls 1 [(0, .ref a)] := hl
  refine lv_aload_n hx hb dJ16_parseLong_2_0 rfl (lv_at hl 0 rfl) ?_
  refine lv_bipush (v := 10) hx hb dJ16_parseLong_2_1 (by decide) ?_
  refine gcS2_lP hCF hwm hl.1 (m_parseJ3 l z H0 a v w b T k fv hv1 hv2 hnum hlen hstr hs hg hzw ) (lw_S q1847 q1848 q77 q1849) yd_J16_parseLong_3 ⟨Nat.le_of_ble_eq_true rfl, Nat.le_of_ble_eq_true rfl⟩ ⟨Nat.le_of_ble_eq_true rfl, Nat.le_of_ble_eq_true rfl⟩ (Nat.le_of_ble_eq_true rfl) dJ16_parseLong_2_3 (fun r_1 hp => ?_)
  subst hp
  refine g_lretP hx hb hr hlocks ?_ dJ16_parseLong_2_6
  rfl
set_option maxHeartbeats 1000000 in
theorem m_parseJCS (l : Launch) (z : State) (H0 : Heap) (a : Nat) (v : Int) (u : Nat)  (w : Bool) (b : Nat) (T : List Nat) {A : Nat → Prop} (k : Nat → Nat) (fv : Nat → Value) (hv1 : -9223372036854775807 ≤ v) (hv2 : v ≤ 9223372036854775807) (hnum : numAt T u v) (hstr : gS z w H0 a b T) (hs : sS z k fv A H0) (hg : sG z k A H0) (hzw : zW z) : Met l yJ16_parseLong (ws_ yJ16_parseLong cJ16_parseLong 14 (some .long)) { frames := 4, cells := 0, slots := 0, locals := 85 } (gPc z H0 [.ref a, .int (nI u), .int (nI (u + mn v + nd v.natAbs)), .int 10]) (gPl H0 (fun r => r = lI v)) 0 0 gno := by
  refine g_start (by decide +kernel) (Nat.le_of_ble_eq_true rfl) ?_
  intro p e s m below meth c ls hx hb hr hlocks hml hown hname hts hwm hl
  have hown : s.vm.findClass "java/lang/Long" = some m.cls := hown
  have hal : z.vm.Alike s.vm := hwm.alike
  have hCF : CallFix p m c cJ16_parseLong 14 s [.ref a, .int (nI u), .int (nI (u + mn v + nd v.natAbs)), .int 10].toArray lw_all "java/lang/Long" := ⟨hx, hb, hml, hown, hts⟩
  have hl : lv_has ls 14 [(0, .ref a), (1, .int (nI u)), (2, .int (nI (u + mn v + nd v.natAbs))), (3, .int 10)] := hl
  obtain ⟨h, hzz, hO, hB, hT⟩ := hstr
  obtain ⟨hn1, hn2, hn3⟩ := hnum
  have hT1 := hT.1
  have hnp := nd_pos v.natAbs
  have hmn1 := mn_b v
  have hc0 := tx_at hT u
  refine lv_aload_n hx hb dJ16_parseLong_0 rfl (lv_at hl 0 rfl) ?_
  refine gcS1_rP hCF hwm hl.1 (m_nonNull l z H0 a  ) (lw_S q614 q615 q81 q616) yd_J20_requireNonNull ⟨Nat.le_of_ble_eq_true rfl, Nat.le_of_ble_eq_true rfl⟩ ⟨Nat.le_of_ble_eq_true rfl, Nat.le_of_ble_eq_true rfl⟩ (Nat.le_of_ble_eq_true rfl) dJ16_parseLong_1 (fun r_1 hp => ?_)
  replace hp := hp.symm
  subst hp
  refine lv_pop hx hb dJ16_parseLong_4 rfl ?_
  refine lv_iload_n hx hb dJ16_parseLong_5 rfl (lv_at hl 1 rfl) ?_
  refine lv_iload_n hx hb dJ16_parseLong_6 rfl (lv_at hl 2 rfl) ?_
  refine lv_aload_n hx hb dJ16_parseLong_7 rfl (lv_at hl 0 rfl) ?_
  refine gcF0_iP (w_classAt hts q166).choose_spec hCF hwm hl.1 (m_length l z H0 a w b T k fv ⟨h, hzz, hO, hB, hT⟩ hs ) (va_cwF (x := ⟨"java/lang/CharSequence", "length", "()I"⟩) 0 hts (lw_app (lw_list4 q618 q622 q219 q64) (lw_meth q221)) rfl rfl rfl (va_Fw.moved ⟨by decide, by decide⟩ hal hzw.2.2.1) ⟨by decide, by decide, by decide +kernel⟩ ⟨Nat.le_of_ble_eq_true rfl, Nat.le_of_ble_eq_true rfl⟩) (hO.recv hal) ⟨Nat.le_of_ble_eq_true rfl, Nat.le_of_ble_eq_true rfl⟩ (Nat.le_of_ble_eq_true rfl) dJ16_parseLong_8 (fun r_2 hp => ?_)
  subst hp
  refine gcS3_iP hCF hwm hl.1 (m_objCheck l z H0  u (u + mn v + nd v.natAbs) T.length (by omega) (by omega) (by omega) ) (lw_S q629 q630 q81 q631) yd_J20_checkFromToIndex ⟨Nat.le_of_ble_eq_true rfl, Nat.le_of_ble_eq_true rfl⟩ ⟨Nat.le_of_ble_eq_true rfl, Nat.le_of_ble_eq_true rfl⟩ (Nat.le_of_ble_eq_true rfl) dJ16_parseLong_13 (fun r_3 hp => ?_)
  subst hp
  refine lv_pop hx hb dJ16_parseLong_16 rfl ?_
  refine lv_iload_n hx hb dJ16_parseLong_17 rfl (lv_at hl 3 rfl) ?_
  refine lv_iconst (v := 2) hx hb dJ16_parseLong_18 (by decide) ?_
  refine lv_icmp_ge (tgt := 54) hx hb dJ16_parseLong_19 (by decide) (fun c_19 => ?_) (fun c_19 => absurd (by decide) c_19)
  refine lv_iload_n hx hb dJ16_parseLong_54 rfl (lv_at hl 3 rfl) ?_
  refine lv_bipush (v := 36) hx hb dJ16_parseLong_55 (by decide) ?_
  refine lv_icmp_le (tgt := 92) hx hb dJ16_parseLong_57 (by decide) (fun c_57 => ?_) (fun c_57 => absurd (by decide) c_57)
  refine lv_iconst (v := 0) hx hb dJ16_parseLong_92 (by decide) ?_
  refine lv_istore hx hb dJ16_parseLong_93 hl (by decide) rfl (fun ls hl => ?_)
  have hl : lv_has ls 14 [(4, .int 0), (0, .ref a), (1, .int (nI u)), (2, .int (nI (u + mn v + nd v.natAbs))), (3, .int 10)] := hl
  refine lv_iload_n hx hb dJ16_parseLong_95 rfl (lv_at hl 2 rfl) ?_
  refine lv_istore hx hb dJ16_parseLong_96 hl (by decide) rfl (fun ls hl => ?_)
  have hl : lv_has ls 14 [(5, .int (nI u)), (4, .int 0), (0, .ref a), (1, .int (nI u)), (2, .int (nI (u + mn v + nd v.natAbs))), (3, .int 10)] := hl
  refine lv_ldc2 (v := -9223372036854775807) hx hb hown (hts _ q658) dJ16_parseLong_98 ?_
  refine lv_lstore hx hb dJ16_parseLong_101 hl (by decide) rfl (fun ls hl => ?_)
  have hl : lv_has ls 14 [(6, .long (-9223372036854775807)), (5, .int (nI u)), (4, .int 0), (0, .ref a), (1, .int (nI u)), (2, .int (nI (u + mn v + nd v.natAbs))), (3, .int 10)] := hl
  refine lv_iload hx hb dJ16_parseLong_103 (lv_at hl 1 rfl) ?_
  refine lv_iload_n hx hb dJ16_parseLong_105 rfl (lv_at hl 5 rfl) ?_
  refine lv_icmp_ge (tgt := 286) hx hb dJ16_parseLong_106 (by decide) (fun c_106 => False.elim (by
    have c_106 := (ai_le (a := (u + mn v + nd v.natAbs)) (b := u) (rfl) (rfl) (by omega) (by omega)).mp c_106
    omega)) (fun c_106 => ?_)
  have c_106 := mt (ai_le (a := (u + mn v + nd v.natAbs)) (b := u) (rfl) (rfl) (by omega) (by omega)).mpr c_106
  refine lv_aload_n hx hb dJ16_parseLong_109 rfl (lv_at hl 3 rfl) ?_
  refine lv_iload hx hb dJ16_parseLong_110 (lv_at hl 1 rfl) ?_
  refine gcF1_iP (w_classAt hts q166).choose_spec hCF hwm hl.1 (m_charAt l z H0 a (u) w b T k fv (by omega) ⟨h, hzz, hO, hB, hT⟩ hs ) (va_cwF (x := ⟨"java/lang/CharSequence", "charAt", "(I)C"⟩) 1 hts (lw_app (lw_list4 q660 q663 q539 q64) (lw_meth q541)) rfl rfl rfl (va_Fw.moved ⟨by decide, by decide⟩ hal hzw.2.2.2.1) ⟨by decide, by decide, by decide +kernel⟩ ⟨Nat.le_of_ble_eq_true rfl, Nat.le_of_ble_eq_true rfl⟩) (hO.recv hal) ⟨Nat.le_of_ble_eq_true rfl, Nat.le_of_ble_eq_true rfl⟩ (Nat.le_of_ble_eq_true rfl) dJ16_parseLong_112 (fun r_4 hp => ?_)
  subst hp
  refine lv_istore hx hb dJ16_parseLong_117 hl (by decide) rfl (fun ls hl => ?_)
  have hl : lv_has ls 14 [(8, .int (nI (T.getD (u) 0))), (6, .long (-9223372036854775807)), (5, .int (nI u)), (4, .int 0), (0, .ref a), (1, .int (nI u)), (2, .int (nI (u + mn v + nd v.natAbs))), (3, .int 10)] := hl
  refine lv_iload hx hb dJ16_parseLong_119 (lv_at hl 0 rfl) ?_
  refine lv_bipush (v := 48) hx hb dJ16_parseLong_121 (by decide) ?_
  refine lv_icmp_ge (tgt := 163) hx hb dJ16_parseLong_123 (by decide) (fun c_123 => ?_) (fun c_123 => ?_)
  · skip
    have c_123 := (ai_le (a := 48) (b := (T.getD (u) 0)) (rfl) (rfl) (by omega) (by omega)).mp c_123
    have hv : ¬ v < 0 := fun q => by
      have := hn1 q
      omega
    have hmn : mn v = 0 := if_neg hv
    refine lv_iload hx hb dJ16_parseLong_163 (lv_at hl 2 rfl) ?_
    refine lv_iload_n hx hb dJ16_parseLong_165 rfl (lv_at hl 6 rfl) ?_
    refine lv_icmp_lt (tgt := 178) hx hb dJ16_parseLong_166 (by decide) (fun c_166 => ?_) (fun c_166 => False.elim (by
      have c_166 := mt (ai_lt (a := u) (b := (u + mn v + nd v.natAbs)) (rfl) (rfl) (by omega) (by omega)).mpr c_166
      omega))
    have c_166 := (ai_lt (a := u) (b := (u + mn v + nd v.natAbs)) (rfl) (rfl) (by omega) (by omega)).mp c_166
    refine lv_lload hx hb dJ16_parseLong_178 (lv_at hl 1 rfl) ?_
    refine lv_iload_n hx hb dJ16_parseLong_180 rfl (lv_at hl 7 rfl) ?_
    refine lv_i2l hx hb dJ16_parseLong_181 rfl ?_
    refine g_topl (v := lN 10) (ai_i2l (rfl) (by omega)) ?_
    refine lv_ldiv hx hb dJ16_parseLong_182 (by decide) ?_
    refine g_topl (v := (-922337203685477580)) (by decide) ?_
    refine lv_lstore hx hb dJ16_parseLong_183 hl (by decide) rfl (fun ls hl => ?_)
    have hl : lv_has ls 14 [(9, .long (-922337203685477580)), (8, .int (nI (T.getD (u) 0))), (6, .long (-9223372036854775807)), (5, .int (nI u)), (4, .int 0), (0, .ref a), (1, .int (nI u)), (2, .int (nI (u + mn v + nd v.natAbs))), (3, .int 10)] := hl
    refine lv_lconst (v := 0) hx hb dJ16_parseLong_185 (by decide) ?_
    refine lv_lstore hx hb dJ16_parseLong_186 hl (by decide) rfl (fun ls hl => ?_)
    have hl : lv_has ls 14 [(11, .long 0), (9, .long (-922337203685477580)), (8, .int (nI (T.getD (u) 0))), (6, .long (-9223372036854775807)), (5, .int (nI u)), (4, .int 0), (0, .ref a), (1, .int (nI u)), (2, .int (nI (u + mn v + nd v.natAbs))), (3, .int 10)] := hl
    replace hl : lv_has ls 14 [(11, .long (lI (-(pfx v.natAbs 0 : Int)))), (9, .long (-922337203685477580)), (8, .int (nI (T.getD (u) 0))), (6, .long (-9223372036854775807)), (5, .int (nI (u + 0))), (4, .int 0), (0, .ref a), (1, .int (nI u)), (2, .int (nI (u + mn v + nd v.natAbs))), (3, .int 10)] := by
      rw [pfx_0]
      exact hl
    have loop0 : ∀ (n_ : Nat) (t : Nat), (t ≤ nd v.natAbs) → (nd v.natAbs - t) < n_ → ∀ (ls : Array Slot), lv_has ls 14 [(11, .long (lI (-(pfx v.natAbs t : Int)))), (9, .long (-922337203685477580)), (6, .long (-9223372036854775807)), (5, .int (nI (u + t))), (4, .int 0), (0, .ref a), (1, .int (nI u)), (2, .int (nI (u + mn v + nd v.natAbs))), (3, .int 10)] → W p l e { frames := 4, cells := 0, slots := 0, locals := 85 } s m [.ref a, .int (nI u), .int (nI (u + mn v + nd v.natAbs)), .int 10].toArray below meth c H0 [] 0 0 (MQ below (gPl H0 (fun r => r = lI v)) [.ref a, .int (nI u), .int (nI (u + mn v + nd v.natAbs)), .int 10].toArray s 0 0 (gno)) (F0 m 188 ls []) := by
      intro n_
      induction n_ with
      | zero => intro t ht hm_; exact absurd hm_ (Nat.not_lt_zero _)
      | succ n_ ih_loop0 =>
        intro t ht hm_ ls hl
        refine lv_iload hx hb dJ16_parseLong_188 (lv_at hl 3 rfl) ?_
        refine lv_iload_n hx hb dJ16_parseLong_190 rfl (lv_at hl 7 rfl) ?_
        refine lv_icmp_ge (tgt := 272) hx hb dJ16_parseLong_191 (by decide) (fun c_191 => ?_) (fun c_191 => ?_)
        · skip
          have c_191 := (ai_le (a := (u + mn v + nd v.natAbs)) (b := (u + t)) (rfl) (rfl) (by omega) (by omega)).mp c_191
          refine lv_iload hx hb dJ16_parseLong_272 (lv_at hl 4 rfl) ?_
          refine lv_if_eq (tgt := 282) hx hb dJ16_parseLong_274 (by decide) (fun c_274 => ?_) (fun c_274 => absurd (by decide) c_274)
          refine lv_lload hx hb dJ16_parseLong_282 (lv_at hl 0 rfl) ?_
          refine lv_lneg hx hb dJ16_parseLong_284 ?_
          refine g_topl (v := lI (-(-(pfx v.natAbs t : Int)))) (ai_negLI (rfl)) ?_
          refine g_lretP hx hb hr hlocks ?_ dJ16_parseLong_285
          have e1 : t = nd v.natAbs := by omega
          subst e1
          rw [pfx_end]
          exact congrArg lI (by omega)
        · skip
          have c_191 := mt (ai_le (a := (u + mn v + nd v.natAbs)) (b := (u + t)) (rfl) (rfl) (by omega) (by omega)).mpr c_191
          have ht2 : t < nd v.natAbs := by omega
          have hd1 := dgt_lt v.natAbs t
          have hd2 := hn2 t ht2
          have hd3 := pfx_s ht2
          have hd4 := pfx_le v.natAbs (t + 1)
          refine lv_aload_n hx hb dJ16_parseLong_194 rfl (lv_at hl 5 rfl) ?_
          refine lv_iload hx hb dJ16_parseLong_195 (lv_at hl 3 rfl) ?_
          refine gcF1_iP (w_classAt hts q166).choose_spec hCF hwm hl.1 (m_charAt l z H0 a (u + t) w b T k fv (by omega) ⟨h, hzz, hO, hB, hT⟩ hs ) (va_cwF (x := ⟨"java/lang/CharSequence", "charAt", "(I)C"⟩) 1 hts (lw_app (lw_list4 q660 q663 q539 q64) (lw_meth q541)) rfl rfl rfl (va_Fw.moved ⟨by decide, by decide⟩ hal hzw.2.2.2.1) ⟨by decide, by decide, by decide +kernel⟩ ⟨Nat.le_of_ble_eq_true rfl, Nat.le_of_ble_eq_true rfl⟩) (hO.recv hal) ⟨Nat.le_of_ble_eq_true rfl, Nat.le_of_ble_eq_true rfl⟩ (Nat.le_of_ble_eq_true rfl) dJ16_parseLong_197 (fun r_5 hp => ?_)
          subst hp
          rw [show u + t = u + mn v + t by omega, hd2]
          refine lv_iload_n hx hb dJ16_parseLong_202 rfl (lv_at hl 8 rfl) ?_
          refine gcS2_iP hCF hwm hl.1 (m_digit l z H0  (48 + dgt v.natAbs t) k (by omega) (by omega) hg hzw ) (lw_S q1409 q1410 q80 q1411) yd_J19_digit ⟨Nat.le_of_ble_eq_true rfl, Nat.le_of_ble_eq_true rfl⟩ ⟨Nat.le_of_ble_eq_true rfl, Nat.le_of_ble_eq_true rfl⟩ (Nat.le_of_ble_eq_true rfl) dJ16_parseLong_203 (fun r_6 hp => ?_)
          subst hp
          rw [show 48 + dgt v.natAbs t - 48 = dgt v.natAbs t by omega]
          refine lv_istore hx hb dJ16_parseLong_206 hl (by decide) rfl (fun ls hl => ?_)
          have hl : lv_has ls 14 [(13, .int (nI (dgt v.natAbs t))), (11, .long (lI (-(pfx v.natAbs t : Int)))), (9, .long (-922337203685477580)), (6, .long (-9223372036854775807)), (5, .int (nI (u + t))), (4, .int 0), (0, .ref a), (1, .int (nI u)), (2, .int (nI (u + mn v + nd v.natAbs))), (3, .int 10)] := hl
          refine lv_iload hx hb dJ16_parseLong_208 (lv_at hl 0 rfl) ?_
          refine lv_if_lt (tgt := 221) hx hb dJ16_parseLong_210 (by decide) (fun c_210 => False.elim (by
            have c_210 := (ai_lt (a := (dgt v.natAbs t)) (b := 0) (rfl) (rfl) (by omega) (by omega)).mp c_210
            omega)) (fun c_210 => ?_)
          have c_210 := mt (ai_lt (a := (dgt v.natAbs t)) (b := 0) (rfl) (rfl) (by omega) (by omega)).mpr c_210
          refine lv_lload hx hb dJ16_parseLong_213 (lv_at hl 1 rfl) ?_
          refine lv_lload hx hb dJ16_parseLong_215 (lv_at hl 2 rfl) ?_
          refine W.lcmp hx hb dJ16_parseLong_217 ?_
          refine lv_if_ge (tgt := 230) hx hb dJ16_parseLong_218 (by decide) (fun c_218 => ?_) (fun c_218 => False.elim (by
            have c_218 := mt (ai_cge (a := (-(pfx v.natAbs t : Int))) (b := (-922337203685477580)) (rfl) (by decide) (by omega) (by omega) (by omega) (by omega)).mpr c_218
            omega))
          have c_218 := (ai_cge (a := (-(pfx v.natAbs t : Int))) (b := (-922337203685477580)) (rfl) (by decide) (by omega) (by omega) (by omega) (by omega)).mp c_218
          refine lv_lload hx hb dJ16_parseLong_230 (lv_at hl 1 rfl) ?_
          refine lv_iload_n hx hb dJ16_parseLong_232 rfl (lv_at hl 9 rfl) ?_
          refine lv_i2l hx hb dJ16_parseLong_233 rfl ?_
          refine g_topl (v := lN 10) (ai_i2l (rfl) (by omega)) ?_
          refine lv_lmul hx hb dJ16_parseLong_234 ?_
          refine g_topl (v := lI ((-(pfx v.natAbs t : Int)) * (10 : Nat))) (ai_mulLI (a := (-(pfx v.natAbs t : Int))) (b := (10 : Nat)) (rfl) (lN_lI _)) ?_
          refine lv_lstore hx hb dJ16_parseLong_235 hl (by decide) rfl (fun ls hl => ?_)
          have hl : lv_has ls 14 [(11, .long (lI ((-(pfx v.natAbs t : Int)) * (10 : Nat)))), (13, .int (nI (dgt v.natAbs t))), (9, .long (-922337203685477580)), (6, .long (-9223372036854775807)), (5, .int (nI (u + t))), (4, .int 0), (0, .ref a), (1, .int (nI u)), (2, .int (nI (u + mn v + nd v.natAbs))), (3, .int 10)] := hl
          refine lv_lload hx hb dJ16_parseLong_237 (lv_at hl 0 rfl) ?_
          refine lv_lload hx hb dJ16_parseLong_239 (lv_at hl 3 rfl) ?_
          refine lv_iload hx hb dJ16_parseLong_241 (lv_at hl 1 rfl) ?_
          refine lv_i2l hx hb dJ16_parseLong_243 rfl ?_
          refine g_topl (v := lN (dgt v.natAbs t)) (ai_i2l (rfl) (by omega)) ?_
          refine lv_ladd hx hb dJ16_parseLong_244 ?_
          refine g_topl (v := lI ((-9223372036854775807) + ((dgt v.natAbs t) : Nat))) (ai_addLI (a := (-9223372036854775807)) (b := ((dgt v.natAbs t) : Nat)) (by decide) (lN_lI _)) ?_
          refine W.lcmp hx hb dJ16_parseLong_245 ?_
          refine lv_if_ge (tgt := 258) hx hb dJ16_parseLong_246 (by decide) (fun c_246 => ?_) (fun c_246 => False.elim (by
            have c_246 := mt (ai_cge (a := ((-(pfx v.natAbs t : Int)) * (10 : Nat))) (b := ((-9223372036854775807) + ((dgt v.natAbs t) : Nat))) (rfl) (rfl) (by omega) (by omega) (by omega) (by omega)).mpr c_246
            omega))
          have c_246 := (ai_cge (a := ((-(pfx v.natAbs t : Int)) * (10 : Nat))) (b := ((-9223372036854775807) + ((dgt v.natAbs t) : Nat))) (rfl) (rfl) (by omega) (by omega) (by omega) (by omega)).mp c_246
          refine lv_iinc (k := 4) (v := (nI (u + t + 1))) hx hb dJ16_parseLong_258 hl rfl (ai_add (rfl) (show Int32.ofInt 1 = nI 1 by decide)) (by decide) rfl (fun ls hl => ?_)
          have hl : lv_has ls 14 [(5, .int (nI (u + t + 1))), (11, .long (lI ((-(pfx v.natAbs t : Int)) * (10 : Nat)))), (13, .int (nI (dgt v.natAbs t))), (9, .long (-922337203685477580)), (6, .long (-9223372036854775807)), (4, .int 0), (0, .ref a), (1, .int (nI u)), (2, .int (nI (u + mn v + nd v.natAbs))), (3, .int 10)] := hl
          refine lv_lload hx hb dJ16_parseLong_261 (lv_at hl 1 rfl) ?_
          refine lv_iload hx hb dJ16_parseLong_263 (lv_at hl 2 rfl) ?_
          refine lv_i2l hx hb dJ16_parseLong_265 rfl ?_
          refine g_topl (v := lN (dgt v.natAbs t)) (ai_i2l (rfl) (by omega)) ?_
          refine lv_lsub hx hb dJ16_parseLong_266 ?_
          refine g_topl (v := lI (((-(pfx v.natAbs t : Int)) * (10 : Nat)) - ((dgt v.natAbs t) : Nat))) (ai_subLI (a := ((-(pfx v.natAbs t : Int)) * (10 : Nat))) (b := ((dgt v.natAbs t) : Nat)) (rfl) (lN_lI _)) ?_
          refine lv_lstore hx hb dJ16_parseLong_267 hl (by decide) rfl (fun ls hl => ?_)
          have hl : lv_has ls 14 [(11, .long (lI (((-(pfx v.natAbs t : Int)) * (10 : Nat)) - ((dgt v.natAbs t) : Nat)))), (5, .int (nI (u + t + 1))), (13, .int (nI (dgt v.natAbs t))), (9, .long (-922337203685477580)), (6, .long (-9223372036854775807)), (4, .int 0), (0, .ref a), (1, .int (nI u)), (2, .int (nI (u + mn v + nd v.natAbs))), (3, .int 10)] := hl
          refine lv_goto (tgt := 188) hx hb dJ16_parseLong_269 (by decide) ?_
          replace hl : lv_has ls 14 [(11, .long (lI (-(pfx v.natAbs (t + 1) : Int)))), (5, .int (nI (u + (t + 1)))), (13, .int (nI (dgt v.natAbs t))), (9, .long (-922337203685477580)), (6, .long (-9223372036854775807)), (4, .int 0), (0, .ref a), (1, .int (nI u)), (2, .int (nI (u + mn v + nd v.natAbs))), (3, .int 10)] := by
            rw [pfx_s ht2, show -((10 * pfx v.natAbs t + dgt v.natAbs t : Nat) : Int) = (-(pfx v.natAbs t : Int)) * (10 : Nat) - (dgt v.natAbs t : Nat) by omega]
            exact hl
          exact ih_loop0 (t + 1) (by omega) (by omega) ls (lv_sub hl [0, 3, 4, 1, 5, 6, 7, 8, 9] rfl)
    exact loop0 _ 0 (Nat.zero_le _) (Nat.lt_succ_self _) ls (lv_sub hl [0, 1, 3, 4, 5, 6, 7, 8, 9] rfl)
  · skip
    have c_123 := mt (ai_le (a := 48) (b := (T.getD (u) 0)) (rfl) (rfl) (by omega) (by omega)).mpr c_123
    have hv : v < 0 := by
      refine Decidable.byContradiction fun q => ?_
      have := hn2 0 (nd_pos _)
      rw [show mn v = 0 from if_neg q] at this
      simp only [Nat.add_zero] at this
      omega
    have hmn : mn v = 1 := if_pos hv
    have h45 := hn1 hv
    refine lv_iload hx hb dJ16_parseLong_126 (lv_at hl 0 rfl) ?_
    refine lv_bipush (v := 45) hx hb dJ16_parseLong_128 (by decide) ?_
    refine lv_icmp_ne (tgt := 144) hx hb dJ16_parseLong_130 (by decide) (fun c_130 => False.elim (by
      have c_130 := mt (ai_eq (a := (T.getD (u) 0)) (b := 45) (rfl) (rfl) (by omega) (by omega)).mpr c_130
      omega)) (fun c_130 => ?_)
    have c_130 := (ai_eq (a := (T.getD (u) 0)) (b := 45) (rfl) (rfl) (by omega) (by omega)).mp c_130
    refine lv_iconst (v := 1) hx hb dJ16_parseLong_133 (by decide) ?_
    refine lv_istore hx hb dJ16_parseLong_134 hl (by decide) rfl (fun ls hl => ?_)
    have hl : lv_has ls 14 [(4, .int 1), (8, .int (nI (T.getD (u) 0))), (6, .long (-9223372036854775807)), (5, .int (nI u)), (0, .ref a), (1, .int (nI u)), (2, .int (nI (u + mn v + nd v.natAbs))), (3, .int 10)] := hl
    refine lv_ldc2 (v := -9223372036854775808) hx hb hown (hts _ q677) dJ16_parseLong_136 ?_
    refine lv_lstore hx hb dJ16_parseLong_139 hl (by decide) rfl (fun ls hl => ?_)
    have hl : lv_has ls 14 [(6, .long (-9223372036854775808)), (4, .int 1), (8, .int (nI (T.getD (u) 0))), (5, .int (nI u)), (0, .ref a), (1, .int (nI u)), (2, .int (nI (u + mn v + nd v.natAbs))), (3, .int 10)] := hl
    refine lv_goto (tgt := 160) hx hb dJ16_parseLong_141 (by decide) ?_
    refine lv_iinc (k := 3) (v := (nI (u + 1))) hx hb dJ16_parseLong_160 hl rfl (ai_add (rfl) (show Int32.ofInt 1 = nI 1 by decide)) (by decide) rfl (fun ls hl => ?_)
    have hl : lv_has ls 14 [(5, .int (nI (u + 1))), (6, .long (-9223372036854775808)), (4, .int 1), (8, .int (nI (T.getD (u) 0))), (0, .ref a), (1, .int (nI u)), (2, .int (nI (u + mn v + nd v.natAbs))), (3, .int 10)] := hl
    refine lv_iload hx hb dJ16_parseLong_163 (lv_at hl 0 rfl) ?_
    refine lv_iload_n hx hb dJ16_parseLong_165 rfl (lv_at hl 6 rfl) ?_
    refine lv_icmp_lt (tgt := 178) hx hb dJ16_parseLong_166 (by decide) (fun c_166 => ?_) (fun c_166 => False.elim (by
      have c_166 := mt (ai_lt (a := (u + 1)) (b := (u + mn v + nd v.natAbs)) (rfl) (rfl) (by omega) (by omega)).mpr c_166
      omega))
    have c_166 := (ai_lt (a := (u + 1)) (b := (u + mn v + nd v.natAbs)) (rfl) (rfl) (by omega) (by omega)).mp c_166
    refine lv_lload hx hb dJ16_parseLong_178 (lv_at hl 1 rfl) ?_
    refine lv_iload_n hx hb dJ16_parseLong_180 rfl (lv_at hl 7 rfl) ?_
    refine lv_i2l hx hb dJ16_parseLong_181 rfl ?_
    refine g_topl (v := lN 10) (ai_i2l (rfl) (by omega)) ?_
    refine lv_ldiv hx hb dJ16_parseLong_182 (by decide) ?_
    refine g_topl (v := (-922337203685477580)) (by decide) ?_
    refine lv_lstore hx hb dJ16_parseLong_183 hl (by decide) rfl (fun ls hl => ?_)
    have hl : lv_has ls 14 [(9, .long (-922337203685477580)), (5, .int (nI (u + 1))), (6, .long (-9223372036854775808)), (4, .int 1), (8, .int (nI (T.getD (u) 0))), (0, .ref a), (1, .int (nI u)), (2, .int (nI (u + mn v + nd v.natAbs))), (3, .int 10)] := hl
    refine lv_lconst (v := 0) hx hb dJ16_parseLong_185 (by decide) ?_
    refine lv_lstore hx hb dJ16_parseLong_186 hl (by decide) rfl (fun ls hl => ?_)
    have hl : lv_has ls 14 [(11, .long 0), (9, .long (-922337203685477580)), (5, .int (nI (u + 1))), (6, .long (-9223372036854775808)), (4, .int 1), (8, .int (nI (T.getD (u) 0))), (0, .ref a), (1, .int (nI u)), (2, .int (nI (u + mn v + nd v.natAbs))), (3, .int 10)] := hl
    replace hl : lv_has ls 14 [(11, .long (lI (-(pfx v.natAbs 0 : Int)))), (9, .long (-922337203685477580)), (5, .int (nI (u + 1 + 0))), (6, .long (-9223372036854775808)), (4, .int 1), (8, .int (nI (T.getD (u) 0))), (0, .ref a), (1, .int (nI u)), (2, .int (nI (u + mn v + nd v.natAbs))), (3, .int 10)] := by
      rw [pfx_0]
      exact hl
    have loop1 : ∀ (n_ : Nat) (t : Nat), (t ≤ nd v.natAbs) → (nd v.natAbs - t) < n_ → ∀ (ls : Array Slot), lv_has ls 14 [(11, .long (lI (-(pfx v.natAbs t : Int)))), (9, .long (-922337203685477580)), (5, .int (nI (u + 1 + t))), (6, .long (-9223372036854775808)), (4, .int 1), (0, .ref a), (1, .int (nI u)), (2, .int (nI (u + mn v + nd v.natAbs))), (3, .int 10)] → W p l e { frames := 4, cells := 0, slots := 0, locals := 85 } s m [.ref a, .int (nI u), .int (nI (u + mn v + nd v.natAbs)), .int 10].toArray below meth c H0 [] 0 0 (MQ below (gPl H0 (fun r => r = lI v)) [.ref a, .int (nI u), .int (nI (u + mn v + nd v.natAbs)), .int 10].toArray s 0 0 (gno)) (F0 m 188 ls []) := by
      intro n_
      induction n_ with
      | zero => intro t ht hm_; exact absurd hm_ (Nat.not_lt_zero _)
      | succ n_ ih_loop1 =>
        intro t ht hm_ ls hl
        refine lv_iload hx hb dJ16_parseLong_188 (lv_at hl 2 rfl) ?_
        refine lv_iload_n hx hb dJ16_parseLong_190 rfl (lv_at hl 7 rfl) ?_
        refine lv_icmp_ge (tgt := 272) hx hb dJ16_parseLong_191 (by decide) (fun c_191 => ?_) (fun c_191 => ?_)
        · skip
          have c_191 := (ai_le (a := (u + mn v + nd v.natAbs)) (b := (u + 1 + t)) (rfl) (rfl) (by omega) (by omega)).mp c_191
          refine lv_iload hx hb dJ16_parseLong_272 (lv_at hl 4 rfl) ?_
          refine lv_if_eq (tgt := 282) hx hb dJ16_parseLong_274 (by decide) (fun c_274 => absurd c_274 (by decide)) (fun c_274 => ?_)
          refine lv_lload hx hb dJ16_parseLong_277 (lv_at hl 0 rfl) ?_
          refine lv_goto (tgt := 285) hx hb dJ16_parseLong_279 (by decide) ?_
          refine g_lretP hx hb hr hlocks ?_ dJ16_parseLong_285
          have e1 : t = nd v.natAbs := by omega
          subst e1
          rw [pfx_end]
          exact congrArg lI (by omega)
        · skip
          have c_191 := mt (ai_le (a := (u + mn v + nd v.natAbs)) (b := (u + 1 + t)) (rfl) (rfl) (by omega) (by omega)).mpr c_191
          have ht2 : t < nd v.natAbs := by omega
          have hd1 := dgt_lt v.natAbs t
          have hd2 := hn2 t ht2
          have hd3 := pfx_s ht2
          have hd4 := pfx_le v.natAbs (t + 1)
          refine lv_aload_n hx hb dJ16_parseLong_194 rfl (lv_at hl 5 rfl) ?_
          refine lv_iload hx hb dJ16_parseLong_195 (lv_at hl 2 rfl) ?_
          refine gcF1_iP (w_classAt hts q166).choose_spec hCF hwm hl.1 (m_charAt l z H0 a (u + 1 + t) w b T k fv (by omega) ⟨h, hzz, hO, hB, hT⟩ hs ) (va_cwF (x := ⟨"java/lang/CharSequence", "charAt", "(I)C"⟩) 1 hts (lw_app (lw_list4 q660 q663 q539 q64) (lw_meth q541)) rfl rfl rfl (va_Fw.moved ⟨by decide, by decide⟩ hal hzw.2.2.2.1) ⟨by decide, by decide, by decide +kernel⟩ ⟨Nat.le_of_ble_eq_true rfl, Nat.le_of_ble_eq_true rfl⟩) (hO.recv hal) ⟨Nat.le_of_ble_eq_true rfl, Nat.le_of_ble_eq_true rfl⟩ (Nat.le_of_ble_eq_true rfl) dJ16_parseLong_197 (fun r_7 hp => ?_)
          subst hp
          rw [show u + 1 + t = u + mn v + t by omega, hd2]
          refine lv_iload_n hx hb dJ16_parseLong_202 rfl (lv_at hl 8 rfl) ?_
          refine gcS2_iP hCF hwm hl.1 (m_digit l z H0  (48 + dgt v.natAbs t) k (by omega) (by omega) hg hzw ) (lw_S q1409 q1410 q80 q1411) yd_J19_digit ⟨Nat.le_of_ble_eq_true rfl, Nat.le_of_ble_eq_true rfl⟩ ⟨Nat.le_of_ble_eq_true rfl, Nat.le_of_ble_eq_true rfl⟩ (Nat.le_of_ble_eq_true rfl) dJ16_parseLong_203 (fun r_8 hp => ?_)
          subst hp
          rw [show 48 + dgt v.natAbs t - 48 = dgt v.natAbs t by omega]
          refine lv_istore hx hb dJ16_parseLong_206 hl (by decide) rfl (fun ls hl => ?_)
          have hl : lv_has ls 14 [(13, .int (nI (dgt v.natAbs t))), (11, .long (lI (-(pfx v.natAbs t : Int)))), (9, .long (-922337203685477580)), (5, .int (nI (u + 1 + t))), (6, .long (-9223372036854775808)), (4, .int 1), (0, .ref a), (1, .int (nI u)), (2, .int (nI (u + mn v + nd v.natAbs))), (3, .int 10)] := hl
          refine lv_iload hx hb dJ16_parseLong_208 (lv_at hl 0 rfl) ?_
          refine lv_if_lt (tgt := 221) hx hb dJ16_parseLong_210 (by decide) (fun c_210 => False.elim (by
            have c_210 := (ai_lt (a := (dgt v.natAbs t)) (b := 0) (rfl) (rfl) (by omega) (by omega)).mp c_210
            omega)) (fun c_210 => ?_)
          have c_210 := mt (ai_lt (a := (dgt v.natAbs t)) (b := 0) (rfl) (rfl) (by omega) (by omega)).mpr c_210
          refine lv_lload hx hb dJ16_parseLong_213 (lv_at hl 1 rfl) ?_
          refine lv_lload hx hb dJ16_parseLong_215 (lv_at hl 2 rfl) ?_
          refine W.lcmp hx hb dJ16_parseLong_217 ?_
          refine lv_if_ge (tgt := 230) hx hb dJ16_parseLong_218 (by decide) (fun c_218 => ?_) (fun c_218 => False.elim (by
            have c_218 := mt (ai_cge (a := (-(pfx v.natAbs t : Int))) (b := (-922337203685477580)) (rfl) (by decide) (by omega) (by omega) (by omega) (by omega)).mpr c_218
            omega))
          have c_218 := (ai_cge (a := (-(pfx v.natAbs t : Int))) (b := (-922337203685477580)) (rfl) (by decide) (by omega) (by omega) (by omega) (by omega)).mp c_218
          refine lv_lload hx hb dJ16_parseLong_230 (lv_at hl 1 rfl) ?_
          refine lv_iload_n hx hb dJ16_parseLong_232 rfl (lv_at hl 9 rfl) ?_
          refine lv_i2l hx hb dJ16_parseLong_233 rfl ?_
          refine g_topl (v := lN 10) (ai_i2l (rfl) (by omega)) ?_
          refine lv_lmul hx hb dJ16_parseLong_234 ?_
          refine g_topl (v := lI ((-(pfx v.natAbs t : Int)) * (10 : Nat))) (ai_mulLI (a := (-(pfx v.natAbs t : Int))) (b := (10 : Nat)) (rfl) (lN_lI _)) ?_
          refine lv_lstore hx hb dJ16_parseLong_235 hl (by decide) rfl (fun ls hl => ?_)
          have hl : lv_has ls 14 [(11, .long (lI ((-(pfx v.natAbs t : Int)) * (10 : Nat)))), (13, .int (nI (dgt v.natAbs t))), (9, .long (-922337203685477580)), (5, .int (nI (u + 1 + t))), (6, .long (-9223372036854775808)), (4, .int 1), (0, .ref a), (1, .int (nI u)), (2, .int (nI (u + mn v + nd v.natAbs))), (3, .int 10)] := hl
          refine lv_lload hx hb dJ16_parseLong_237 (lv_at hl 0 rfl) ?_
          refine lv_lload hx hb dJ16_parseLong_239 (lv_at hl 4 rfl) ?_
          refine lv_iload hx hb dJ16_parseLong_241 (lv_at hl 1 rfl) ?_
          refine lv_i2l hx hb dJ16_parseLong_243 rfl ?_
          refine g_topl (v := lN (dgt v.natAbs t)) (ai_i2l (rfl) (by omega)) ?_
          refine lv_ladd hx hb dJ16_parseLong_244 ?_
          refine g_topl (v := lI ((-9223372036854775808) + ((dgt v.natAbs t) : Nat))) (ai_addLI (a := (-9223372036854775808)) (b := ((dgt v.natAbs t) : Nat)) (by decide) (lN_lI _)) ?_
          refine W.lcmp hx hb dJ16_parseLong_245 ?_
          refine lv_if_ge (tgt := 258) hx hb dJ16_parseLong_246 (by decide) (fun c_246 => ?_) (fun c_246 => False.elim (by
            have c_246 := mt (ai_cge (a := ((-(pfx v.natAbs t : Int)) * (10 : Nat))) (b := ((-9223372036854775808) + ((dgt v.natAbs t) : Nat))) (rfl) (rfl) (by omega) (by omega) (by omega) (by omega)).mpr c_246
            omega))
          have c_246 := (ai_cge (a := ((-(pfx v.natAbs t : Int)) * (10 : Nat))) (b := ((-9223372036854775808) + ((dgt v.natAbs t) : Nat))) (rfl) (rfl) (by omega) (by omega) (by omega) (by omega)).mp c_246
          refine lv_iinc (k := 3) (v := (nI (u + 1 + t + 1))) hx hb dJ16_parseLong_258 hl rfl (ai_add (rfl) (show Int32.ofInt 1 = nI 1 by decide)) (by decide) rfl (fun ls hl => ?_)
          have hl : lv_has ls 14 [(5, .int (nI (u + 1 + t + 1))), (11, .long (lI ((-(pfx v.natAbs t : Int)) * (10 : Nat)))), (13, .int (nI (dgt v.natAbs t))), (9, .long (-922337203685477580)), (6, .long (-9223372036854775808)), (4, .int 1), (0, .ref a), (1, .int (nI u)), (2, .int (nI (u + mn v + nd v.natAbs))), (3, .int 10)] := hl
          refine lv_lload hx hb dJ16_parseLong_261 (lv_at hl 1 rfl) ?_
          refine lv_iload hx hb dJ16_parseLong_263 (lv_at hl 2 rfl) ?_
          refine lv_i2l hx hb dJ16_parseLong_265 rfl ?_
          refine g_topl (v := lN (dgt v.natAbs t)) (ai_i2l (rfl) (by omega)) ?_
          refine lv_lsub hx hb dJ16_parseLong_266 ?_
          refine g_topl (v := lI (((-(pfx v.natAbs t : Int)) * (10 : Nat)) - ((dgt v.natAbs t) : Nat))) (ai_subLI (a := ((-(pfx v.natAbs t : Int)) * (10 : Nat))) (b := ((dgt v.natAbs t) : Nat)) (rfl) (lN_lI _)) ?_
          refine lv_lstore hx hb dJ16_parseLong_267 hl (by decide) rfl (fun ls hl => ?_)
          have hl : lv_has ls 14 [(11, .long (lI (((-(pfx v.natAbs t : Int)) * (10 : Nat)) - ((dgt v.natAbs t) : Nat)))), (5, .int (nI (u + 1 + t + 1))), (13, .int (nI (dgt v.natAbs t))), (9, .long (-922337203685477580)), (6, .long (-9223372036854775808)), (4, .int 1), (0, .ref a), (1, .int (nI u)), (2, .int (nI (u + mn v + nd v.natAbs))), (3, .int 10)] := hl
          refine lv_goto (tgt := 188) hx hb dJ16_parseLong_269 (by decide) ?_
          replace hl : lv_has ls 14 [(11, .long (lI (-(pfx v.natAbs (t + 1) : Int)))), (5, .int (nI (u + 1 + (t + 1)))), (13, .int (nI (dgt v.natAbs t))), (9, .long (-922337203685477580)), (6, .long (-9223372036854775808)), (4, .int 1), (0, .ref a), (1, .int (nI u)), (2, .int (nI (u + mn v + nd v.natAbs))), (3, .int 10)] := by
            rw [pfx_s ht2, show -((10 * pfx v.natAbs t + dgt v.natAbs t : Nat) : Int) = (-(pfx v.natAbs t : Int)) * (10 : Nat) - (dgt v.natAbs t : Nat) by omega]
            exact hl
          exact ih_loop1 (t + 1) (by omega) (by omega) ls (lv_sub hl [0, 3, 1, 4, 5, 6, 7, 8, 9] rfl)
    exact loop1 _ 0 (Nat.zero_le _) (Nat.lt_succ_self _) ls (lv_sub hl [0, 1, 2, 3, 4, 6, 7, 8, 9] rfl)
set_option maxHeartbeats 1000000 in
theorem m_parseICS (l : Launch) (z : State) (H0 : Heap) (a : Nat) (v : Int) (u : Nat)  (w : Bool) (b : Nat) (T : List Nat) {A : Nat → Prop} (k : Nat → Nat) (fv : Nat → Value) (hv1 : -2147483647 ≤ v) (hv2 : v ≤ 2147483647) (hnum : numAt T u v) (hstr : gS z w H0 a b T) (hs : sS z k fv A H0) (hg : sG z k A H0) (hzw : zW z) : Met l yJ17_parseInt (ws_ yJ17_parseInt cJ17_parseInt 11 (some .int)) { frames := 4, cells := 0, slots := 0, locals := 85 } (gPc z H0 [.ref a, .int (nI u), .int (nI (u + mn v + nd v.natAbs)), .int 10]) (gPi H0 (fun r => r = iI v)) 0 0 gno := by
  refine g_start (by decide +kernel) (Nat.le_of_ble_eq_true rfl) ?_
  intro p e s m below meth c ls hx hb hr hlocks hml hown hname hts hwm hl
  have hown : s.vm.findClass "java/lang/Integer" = some m.cls := hown
  have hal : z.vm.Alike s.vm := hwm.alike
  have hCF : CallFix p m c cJ17_parseInt 11 s [.ref a, .int (nI u), .int (nI (u + mn v + nd v.natAbs)), .int 10].toArray lw_all "java/lang/Integer" := ⟨hx, hb, hml, hown, hts⟩
  have hl : lv_has ls 11 [(0, .ref a), (1, .int (nI u)), (2, .int (nI (u + mn v + nd v.natAbs))), (3, .int 10)] := hl
  obtain ⟨h, hzz, hO, hB, hT⟩ := hstr
  obtain ⟨hn1, hn2, hn3⟩ := hnum
  have hT1 := hT.1
  have hnp := nd_pos v.natAbs
  have hmn1 := mn_b v
  have hc0 := tx_at hT u
  refine lv_aload_n hx hb dJ17_parseInt_0 rfl (lv_at hl 0 rfl) ?_
  refine gcS1_rP hCF hwm hl.1 (m_nonNull l z H0 a  ) (lw_S q1433 q615 q81 q616) yd_J20_requireNonNull ⟨Nat.le_of_ble_eq_true rfl, Nat.le_of_ble_eq_true rfl⟩ ⟨Nat.le_of_ble_eq_true rfl, Nat.le_of_ble_eq_true rfl⟩ (Nat.le_of_ble_eq_true rfl) dJ17_parseInt_1 (fun r_1 hp => ?_)
  replace hp := hp.symm
  subst hp
  refine lv_pop hx hb dJ17_parseInt_4 rfl ?_
  refine lv_iload_n hx hb dJ17_parseInt_5 rfl (lv_at hl 1 rfl) ?_
  refine lv_iload_n hx hb dJ17_parseInt_6 rfl (lv_at hl 2 rfl) ?_
  refine lv_aload_n hx hb dJ17_parseInt_7 rfl (lv_at hl 0 rfl) ?_
  refine gcF0_iP (w_classAt hts q166).choose_spec hCF hwm hl.1 (m_length l z H0 a w b T k fv ⟨h, hzz, hO, hB, hT⟩ hs ) (va_cwF (x := ⟨"java/lang/CharSequence", "length", "()I"⟩) 0 hts (lw_app (lw_list4 q1435 q622 q219 q64) (lw_meth q221)) rfl rfl rfl (va_Fw.moved ⟨by decide, by decide⟩ hal hzw.2.2.1) ⟨by decide, by decide, by decide +kernel⟩ ⟨Nat.le_of_ble_eq_true rfl, Nat.le_of_ble_eq_true rfl⟩) (hO.recv hal) ⟨Nat.le_of_ble_eq_true rfl, Nat.le_of_ble_eq_true rfl⟩ (Nat.le_of_ble_eq_true rfl) dJ17_parseInt_8 (fun r_2 hp => ?_)
  subst hp
  refine gcS3_iP hCF hwm hl.1 (m_objCheck l z H0  u (u + mn v + nd v.natAbs) T.length (by omega) (by omega) (by omega) ) (lw_S q1436 q630 q81 q631) yd_J20_checkFromToIndex ⟨Nat.le_of_ble_eq_true rfl, Nat.le_of_ble_eq_true rfl⟩ ⟨Nat.le_of_ble_eq_true rfl, Nat.le_of_ble_eq_true rfl⟩ (Nat.le_of_ble_eq_true rfl) dJ17_parseInt_13 (fun r_3 hp => ?_)
  subst hp
  refine lv_pop hx hb dJ17_parseInt_16 rfl ?_
  refine lv_iload_n hx hb dJ17_parseInt_17 rfl (lv_at hl 3 rfl) ?_
  refine lv_iconst (v := 2) hx hb dJ17_parseInt_18 (by decide) ?_
  refine lv_icmp_ge (tgt := 54) hx hb dJ17_parseInt_19 (by decide) (fun c_19 => ?_) (fun c_19 => absurd (by decide) c_19)
  refine lv_iload_n hx hb dJ17_parseInt_54 rfl (lv_at hl 3 rfl) ?_
  refine lv_bipush (v := 36) hx hb dJ17_parseInt_55 (by decide) ?_
  refine lv_icmp_le (tgt := 92) hx hb dJ17_parseInt_57 (by decide) (fun c_57 => ?_) (fun c_57 => absurd (by decide) c_57)
  refine lv_iconst (v := 0) hx hb dJ17_parseInt_92 (by decide) ?_
  refine lv_istore hx hb dJ17_parseInt_93 hl (by decide) rfl (fun ls hl => ?_)
  have hl : lv_has ls 11 [(4, .int 0), (0, .ref a), (1, .int (nI u)), (2, .int (nI (u + mn v + nd v.natAbs))), (3, .int 10)] := hl
  refine lv_iload_n hx hb dJ17_parseInt_95 rfl (lv_at hl 2 rfl) ?_
  refine lv_istore hx hb dJ17_parseInt_96 hl (by decide) rfl (fun ls hl => ?_)
  have hl : lv_has ls 11 [(5, .int (nI u)), (4, .int 0), (0, .ref a), (1, .int (nI u)), (2, .int (nI (u + mn v + nd v.natAbs))), (3, .int 10)] := hl
  refine lv_ldc (v := -2147483647) hx hb hown (hts _ q1447) dJ17_parseInt_98 ?_
  refine lv_istore hx hb dJ17_parseInt_100 hl (by decide) rfl (fun ls hl => ?_)
  have hl : lv_has ls 11 [(6, .int (-2147483647)), (5, .int (nI u)), (4, .int 0), (0, .ref a), (1, .int (nI u)), (2, .int (nI (u + mn v + nd v.natAbs))), (3, .int 10)] := hl
  refine lv_iload hx hb dJ17_parseInt_102 (lv_at hl 1 rfl) ?_
  refine lv_iload_n hx hb dJ17_parseInt_104 rfl (lv_at hl 5 rfl) ?_
  refine lv_icmp_ge (tgt := 278) hx hb dJ17_parseInt_105 (by decide) (fun c_105 => False.elim (by
    have c_105 := (ai_le (a := (u + mn v + nd v.natAbs)) (b := u) (rfl) (rfl) (by omega) (by omega)).mp c_105
    omega)) (fun c_105 => ?_)
  have c_105 := mt (ai_le (a := (u + mn v + nd v.natAbs)) (b := u) (rfl) (rfl) (by omega) (by omega)).mpr c_105
  refine lv_aload_n hx hb dJ17_parseInt_108 rfl (lv_at hl 3 rfl) ?_
  refine lv_iload hx hb dJ17_parseInt_109 (lv_at hl 1 rfl) ?_
  refine gcF1_iP (w_classAt hts q166).choose_spec hCF hwm hl.1 (m_charAt l z H0 a (u) w b T k fv (by omega) ⟨h, hzz, hO, hB, hT⟩ hs ) (va_cwF (x := ⟨"java/lang/CharSequence", "charAt", "(I)C"⟩) 1 hts (lw_app (lw_list4 q1449 q663 q539 q64) (lw_meth q541)) rfl rfl rfl (va_Fw.moved ⟨by decide, by decide⟩ hal hzw.2.2.2.1) ⟨by decide, by decide, by decide +kernel⟩ ⟨Nat.le_of_ble_eq_true rfl, Nat.le_of_ble_eq_true rfl⟩) (hO.recv hal) ⟨Nat.le_of_ble_eq_true rfl, Nat.le_of_ble_eq_true rfl⟩ (Nat.le_of_ble_eq_true rfl) dJ17_parseInt_111 (fun r_4 hp => ?_)
  subst hp
  refine lv_istore hx hb dJ17_parseInt_116 hl (by decide) rfl (fun ls hl => ?_)
  have hl : lv_has ls 11 [(7, .int (nI (T.getD (u) 0))), (6, .int (-2147483647)), (5, .int (nI u)), (4, .int 0), (0, .ref a), (1, .int (nI u)), (2, .int (nI (u + mn v + nd v.natAbs))), (3, .int 10)] := hl
  refine lv_iload hx hb dJ17_parseInt_118 (lv_at hl 0 rfl) ?_
  refine lv_bipush (v := 48) hx hb dJ17_parseInt_120 (by decide) ?_
  refine lv_icmp_ge (tgt := 176) hx hb dJ17_parseInt_122 (by decide) (fun c_122 => ?_) (fun c_122 => ?_)
  · skip
    have c_122 := (ai_le (a := 48) (b := (T.getD (u) 0)) (rfl) (rfl) (by omega) (by omega)).mp c_122
    have hv : ¬ v < 0 := fun q => by
      have := hn1 q
      omega
    have hmn : mn v = 0 := if_neg hv
    refine lv_iload hx hb dJ17_parseInt_176 (lv_at hl 1 rfl) ?_
    refine lv_iload_n hx hb dJ17_parseInt_178 rfl (lv_at hl 7 rfl) ?_
    refine lv_idiv hx hb dJ17_parseInt_179 (by decide) ?_
    refine g_topi (v := (-214748364)) (by decide) ?_
    refine lv_istore hx hb dJ17_parseInt_180 hl (by decide) rfl (fun ls hl => ?_)
    have hl : lv_has ls 11 [(8, .int (-214748364)), (7, .int (nI (T.getD (u) 0))), (6, .int (-2147483647)), (5, .int (nI u)), (4, .int 0), (0, .ref a), (1, .int (nI u)), (2, .int (nI (u + mn v + nd v.natAbs))), (3, .int 10)] := hl
    refine lv_iconst (v := 0) hx hb dJ17_parseInt_182 (by decide) ?_
    refine lv_istore hx hb dJ17_parseInt_183 hl (by decide) rfl (fun ls hl => ?_)
    have hl : lv_has ls 11 [(9, .int 0), (8, .int (-214748364)), (7, .int (nI (T.getD (u) 0))), (6, .int (-2147483647)), (5, .int (nI u)), (4, .int 0), (0, .ref a), (1, .int (nI u)), (2, .int (nI (u + mn v + nd v.natAbs))), (3, .int 10)] := hl
    replace hl : lv_has ls 11 [(9, .int (iI (-(pfx v.natAbs 0 : Int)))), (8, .int (-214748364)), (7, .int (nI (T.getD (u) 0))), (6, .int (-2147483647)), (5, .int (nI (u + 0))), (4, .int 0), (0, .ref a), (1, .int (nI u)), (2, .int (nI (u + mn v + nd v.natAbs))), (3, .int 10)] := by
      rw [pfx_0]
      exact hl
    have loop0 : ∀ (n_ : Nat) (t : Nat), (t ≤ nd v.natAbs) → (nd v.natAbs - t) < n_ → ∀ (ls : Array Slot), lv_has ls 11 [(9, .int (iI (-(pfx v.natAbs t : Int)))), (8, .int (-214748364)), (6, .int (-2147483647)), (5, .int (nI (u + t))), (4, .int 0), (0, .ref a), (1, .int (nI u)), (2, .int (nI (u + mn v + nd v.natAbs))), (3, .int 10)] → W p l e { frames := 4, cells := 0, slots := 0, locals := 85 } s m [.ref a, .int (nI u), .int (nI (u + mn v + nd v.natAbs)), .int 10].toArray below meth c H0 [] 0 0 (MQ below (gPi H0 (fun r => r = iI v)) [.ref a, .int (nI u), .int (nI (u + mn v + nd v.natAbs)), .int 10].toArray s 0 0 (gno)) (F0 m 185 ls []) := by
      intro n_
      induction n_ with
      | zero => intro t ht hm_; exact absurd hm_ (Nat.not_lt_zero _)
      | succ n_ ih_loop0 =>
        intro t ht hm_ ls hl
        refine lv_iload hx hb dJ17_parseInt_185 (lv_at hl 3 rfl) ?_
        refine lv_iload_n hx hb dJ17_parseInt_187 rfl (lv_at hl 7 rfl) ?_
        refine lv_icmp_ge (tgt := 264) hx hb dJ17_parseInt_188 (by decide) (fun c_188 => ?_) (fun c_188 => ?_)
        · skip
          have c_188 := (ai_le (a := (u + mn v + nd v.natAbs)) (b := (u + t)) (rfl) (rfl) (by omega) (by omega)).mp c_188
          refine lv_iload hx hb dJ17_parseInt_264 (lv_at hl 4 rfl) ?_
          refine lv_if_eq (tgt := 274) hx hb dJ17_parseInt_266 (by decide) (fun c_266 => ?_) (fun c_266 => absurd (by decide) c_266)
          refine lv_iload hx hb dJ17_parseInt_274 (lv_at hl 0 rfl) ?_
          refine lv_ineg hx hb dJ17_parseInt_276 ?_
          refine g_topi (v := iI (-(-(pfx v.natAbs t : Int)))) (ai_negI (rfl)) ?_
          refine g_iretP hx hb hr hlocks ?_ dJ17_parseInt_277
          have e1 : t = nd v.natAbs := by omega
          subst e1
          rw [pfx_end]
          exact congrArg iI (by omega)
        · skip
          have c_188 := mt (ai_le (a := (u + mn v + nd v.natAbs)) (b := (u + t)) (rfl) (rfl) (by omega) (by omega)).mpr c_188
          have ht2 : t < nd v.natAbs := by omega
          have hd1 := dgt_lt v.natAbs t
          have hd2 := hn2 t ht2
          have hd3 := pfx_s ht2
          have hd4 := pfx_le v.natAbs (t + 1)
          refine lv_aload_n hx hb dJ17_parseInt_191 rfl (lv_at hl 5 rfl) ?_
          refine lv_iload hx hb dJ17_parseInt_192 (lv_at hl 3 rfl) ?_
          refine gcF1_iP (w_classAt hts q166).choose_spec hCF hwm hl.1 (m_charAt l z H0 a (u + t) w b T k fv (by omega) ⟨h, hzz, hO, hB, hT⟩ hs ) (va_cwF (x := ⟨"java/lang/CharSequence", "charAt", "(I)C"⟩) 1 hts (lw_app (lw_list4 q1449 q663 q539 q64) (lw_meth q541)) rfl rfl rfl (va_Fw.moved ⟨by decide, by decide⟩ hal hzw.2.2.2.1) ⟨by decide, by decide, by decide +kernel⟩ ⟨Nat.le_of_ble_eq_true rfl, Nat.le_of_ble_eq_true rfl⟩) (hO.recv hal) ⟨Nat.le_of_ble_eq_true rfl, Nat.le_of_ble_eq_true rfl⟩ (Nat.le_of_ble_eq_true rfl) dJ17_parseInt_194 (fun r_5 hp => ?_)
          subst hp
          rw [show u + t = u + mn v + t by omega, hd2]
          refine lv_iload_n hx hb dJ17_parseInt_199 rfl (lv_at hl 8 rfl) ?_
          refine gcS2_iP hCF hwm hl.1 (m_digit l z H0  (48 + dgt v.natAbs t) k (by omega) (by omega) hg hzw ) (lw_S q1452 q1410 q80 q1411) yd_J19_digit ⟨Nat.le_of_ble_eq_true rfl, Nat.le_of_ble_eq_true rfl⟩ ⟨Nat.le_of_ble_eq_true rfl, Nat.le_of_ble_eq_true rfl⟩ (Nat.le_of_ble_eq_true rfl) dJ17_parseInt_200 (fun r_6 hp => ?_)
          subst hp
          rw [show 48 + dgt v.natAbs t - 48 = dgt v.natAbs t by omega]
          refine lv_istore hx hb dJ17_parseInt_203 hl (by decide) rfl (fun ls hl => ?_)
          have hl : lv_has ls 11 [(10, .int (nI (dgt v.natAbs t))), (9, .int (iI (-(pfx v.natAbs t : Int)))), (8, .int (-214748364)), (6, .int (-2147483647)), (5, .int (nI (u + t))), (4, .int 0), (0, .ref a), (1, .int (nI u)), (2, .int (nI (u + mn v + nd v.natAbs))), (3, .int 10)] := hl
          refine lv_iload hx hb dJ17_parseInt_205 (lv_at hl 0 rfl) ?_
          refine lv_if_lt (tgt := 217) hx hb dJ17_parseInt_207 (by decide) (fun c_207 => False.elim (by
            have c_207 := (ai_lt (a := (dgt v.natAbs t)) (b := 0) (rfl) (rfl) (by omega) (by omega)).mp c_207
            omega)) (fun c_207 => ?_)
          have c_207 := mt (ai_lt (a := (dgt v.natAbs t)) (b := 0) (rfl) (rfl) (by omega) (by omega)).mpr c_207
          refine lv_iload hx hb dJ17_parseInt_210 (lv_at hl 1 rfl) ?_
          refine lv_iload hx hb dJ17_parseInt_212 (lv_at hl 2 rfl) ?_
          refine lv_icmp_ge (tgt := 226) hx hb dJ17_parseInt_214 (by decide) (fun c_214 => ?_) (fun c_214 => False.elim (by
            have c_214 := mt (ai_leI (a := (-214748364)) (b := (-(pfx v.natAbs t : Int))) (by decide) (rfl) (by omega) (by omega) (by omega) (by omega)).mpr c_214
            omega))
          have c_214 := (ai_leI (a := (-214748364)) (b := (-(pfx v.natAbs t : Int))) (by decide) (rfl) (by omega) (by omega) (by omega) (by omega)).mp c_214
          refine lv_iload hx hb dJ17_parseInt_226 (lv_at hl 1 rfl) ?_
          refine lv_iload_n hx hb dJ17_parseInt_228 rfl (lv_at hl 9 rfl) ?_
          refine lv_imul hx hb dJ17_parseInt_229 ?_
          refine g_topi (v := iI ((-(pfx v.natAbs t : Int)) * 10)) (ai_mulI (a := (-(pfx v.natAbs t : Int))) (b := 10) (rfl) (by decide)) ?_
          refine lv_istore hx hb dJ17_parseInt_230 hl (by decide) rfl (fun ls hl => ?_)
          have hl : lv_has ls 11 [(9, .int (iI ((-(pfx v.natAbs t : Int)) * 10))), (10, .int (nI (dgt v.natAbs t))), (8, .int (-214748364)), (6, .int (-2147483647)), (5, .int (nI (u + t))), (4, .int 0), (0, .ref a), (1, .int (nI u)), (2, .int (nI (u + mn v + nd v.natAbs))), (3, .int 10)] := hl
          refine lv_iload hx hb dJ17_parseInt_232 (lv_at hl 0 rfl) ?_
          refine lv_iload hx hb dJ17_parseInt_234 (lv_at hl 3 rfl) ?_
          refine lv_iload hx hb dJ17_parseInt_236 (lv_at hl 1 rfl) ?_
          refine lv_iadd hx hb dJ17_parseInt_238 ?_
          refine g_topi (v := iI ((-2147483647) + ((dgt v.natAbs t) : Nat))) (ai_addI (a := (-2147483647)) (b := ((dgt v.natAbs t) : Nat)) (by decide) (nI_iI _)) ?_
          refine lv_icmp_ge (tgt := 251) hx hb dJ17_parseInt_239 (by decide) (fun c_239 => ?_) (fun c_239 => False.elim (by
            have c_239 := mt (ai_leI (a := ((-2147483647) + ((dgt v.natAbs t) : Nat))) (b := ((-(pfx v.natAbs t : Int)) * 10)) (rfl) (rfl) (by omega) (by omega) (by omega) (by omega)).mpr c_239
            omega))
          have c_239 := (ai_leI (a := ((-2147483647) + ((dgt v.natAbs t) : Nat))) (b := ((-(pfx v.natAbs t : Int)) * 10)) (rfl) (rfl) (by omega) (by omega) (by omega) (by omega)).mp c_239
          refine lv_iinc (k := 4) (v := (nI (u + t + 1))) hx hb dJ17_parseInt_251 hl rfl (ai_add (rfl) (show Int32.ofInt 1 = nI 1 by decide)) (by decide) rfl (fun ls hl => ?_)
          have hl : lv_has ls 11 [(5, .int (nI (u + t + 1))), (9, .int (iI ((-(pfx v.natAbs t : Int)) * 10))), (10, .int (nI (dgt v.natAbs t))), (8, .int (-214748364)), (6, .int (-2147483647)), (4, .int 0), (0, .ref a), (1, .int (nI u)), (2, .int (nI (u + mn v + nd v.natAbs))), (3, .int 10)] := hl
          refine lv_iload hx hb dJ17_parseInt_254 (lv_at hl 1 rfl) ?_
          refine lv_iload hx hb dJ17_parseInt_256 (lv_at hl 2 rfl) ?_
          refine lv_isub hx hb dJ17_parseInt_258 ?_
          refine g_topi (v := iI (((-(pfx v.natAbs t : Int)) * 10) - ((dgt v.natAbs t) : Nat))) (ai_subI (a := ((-(pfx v.natAbs t : Int)) * 10)) (b := ((dgt v.natAbs t) : Nat)) (rfl) (nI_iI _)) ?_
          refine lv_istore hx hb dJ17_parseInt_259 hl (by decide) rfl (fun ls hl => ?_)
          have hl : lv_has ls 11 [(9, .int (iI (((-(pfx v.natAbs t : Int)) * 10) - ((dgt v.natAbs t) : Nat)))), (5, .int (nI (u + t + 1))), (10, .int (nI (dgt v.natAbs t))), (8, .int (-214748364)), (6, .int (-2147483647)), (4, .int 0), (0, .ref a), (1, .int (nI u)), (2, .int (nI (u + mn v + nd v.natAbs))), (3, .int 10)] := hl
          refine lv_goto (tgt := 185) hx hb dJ17_parseInt_261 (by decide) ?_
          replace hl : lv_has ls 11 [(9, .int (iI (-(pfx v.natAbs (t + 1) : Int)))), (5, .int (nI (u + (t + 1)))), (10, .int (nI (dgt v.natAbs t))), (8, .int (-214748364)), (6, .int (-2147483647)), (4, .int 0), (0, .ref a), (1, .int (nI u)), (2, .int (nI (u + mn v + nd v.natAbs))), (3, .int 10)] := by
            rw [pfx_s ht2, show -((10 * pfx v.natAbs t + dgt v.natAbs t : Nat) : Int) = (-(pfx v.natAbs t : Int)) * (10 : Nat) - (dgt v.natAbs t : Nat) by omega]
            exact hl
          exact ih_loop0 (t + 1) (by omega) (by omega) ls (lv_sub hl [0, 3, 4, 1, 5, 6, 7, 8, 9] rfl)
    exact loop0 _ 0 (Nat.zero_le _) (Nat.lt_succ_self _) ls (lv_sub hl [0, 1, 3, 4, 5, 6, 7, 8, 9] rfl)
  · skip
    have c_122 := mt (ai_le (a := 48) (b := (T.getD (u) 0)) (rfl) (rfl) (by omega) (by omega)).mpr c_122
    have hv : v < 0 := by
      refine Decidable.byContradiction fun q => ?_
      have := hn2 0 (nd_pos _)
      rw [show mn v = 0 from if_neg q] at this
      simp only [Nat.add_zero] at this
      omega
    have hmn : mn v = 1 := if_pos hv
    have h45 := hn1 hv
    refine lv_iload hx hb dJ17_parseInt_125 (lv_at hl 0 rfl) ?_
    refine lv_bipush (v := 45) hx hb dJ17_parseInt_127 (by decide) ?_
    refine lv_icmp_ne (tgt := 142) hx hb dJ17_parseInt_129 (by decide) (fun c_129 => False.elim (by
      have c_129 := mt (ai_eq (a := (T.getD (u) 0)) (b := 45) (rfl) (rfl) (by omega) (by omega)).mpr c_129
      omega)) (fun c_129 => ?_)
    have c_129 := (ai_eq (a := (T.getD (u) 0)) (b := 45) (rfl) (rfl) (by omega) (by omega)).mp c_129
    refine lv_iconst (v := 1) hx hb dJ17_parseInt_132 (by decide) ?_
    refine lv_istore hx hb dJ17_parseInt_133 hl (by decide) rfl (fun ls hl => ?_)
    have hl : lv_has ls 11 [(4, .int 1), (7, .int (nI (T.getD (u) 0))), (6, .int (-2147483647)), (5, .int (nI u)), (0, .ref a), (1, .int (nI u)), (2, .int (nI (u + mn v + nd v.natAbs))), (3, .int 10)] := hl
    refine lv_ldc (v := -2147483648) hx hb hown (hts _ q1450) dJ17_parseInt_135 ?_
    refine lv_istore hx hb dJ17_parseInt_137 hl (by decide) rfl (fun ls hl => ?_)
    have hl : lv_has ls 11 [(6, .int (-2147483648)), (4, .int 1), (7, .int (nI (T.getD (u) 0))), (5, .int (nI u)), (0, .ref a), (1, .int (nI u)), (2, .int (nI (u + mn v + nd v.natAbs))), (3, .int 10)] := hl
    refine lv_goto (tgt := 158) hx hb dJ17_parseInt_139 (by decide) ?_
    refine lv_iinc (k := 3) (v := (nI (u + 1))) hx hb dJ17_parseInt_158 hl rfl (ai_add (rfl) (show Int32.ofInt 1 = nI 1 by decide)) (by decide) rfl (fun ls hl => ?_)
    have hl : lv_has ls 11 [(5, .int (nI (u + 1))), (6, .int (-2147483648)), (4, .int 1), (7, .int (nI (T.getD (u) 0))), (0, .ref a), (1, .int (nI u)), (2, .int (nI (u + mn v + nd v.natAbs))), (3, .int 10)] := hl
    refine lv_iload hx hb dJ17_parseInt_161 (lv_at hl 0 rfl) ?_
    refine lv_iload_n hx hb dJ17_parseInt_163 rfl (lv_at hl 6 rfl) ?_
    refine lv_icmp_ne (tgt := 176) hx hb dJ17_parseInt_164 (by decide) (fun c_164 => ?_) (fun c_164 => False.elim (by
      have c_164 := (ai_eq (a := (u + 1)) (b := (u + mn v + nd v.natAbs)) (rfl) (rfl) (by omega) (by omega)).mp c_164
      omega))
    have c_164 := mt (ai_eq (a := (u + 1)) (b := (u + mn v + nd v.natAbs)) (rfl) (rfl) (by omega) (by omega)).mpr c_164
    refine lv_iload hx hb dJ17_parseInt_176 (lv_at hl 1 rfl) ?_
    refine lv_iload_n hx hb dJ17_parseInt_178 rfl (lv_at hl 7 rfl) ?_
    refine lv_idiv hx hb dJ17_parseInt_179 (by decide) ?_
    refine g_topi (v := (-214748364)) (by decide) ?_
    refine lv_istore hx hb dJ17_parseInt_180 hl (by decide) rfl (fun ls hl => ?_)
    have hl : lv_has ls 11 [(8, .int (-214748364)), (5, .int (nI (u + 1))), (6, .int (-2147483648)), (4, .int 1), (7, .int (nI (T.getD (u) 0))), (0, .ref a), (1, .int (nI u)), (2, .int (nI (u + mn v + nd v.natAbs))), (3, .int 10)] := hl
    refine lv_iconst (v := 0) hx hb dJ17_parseInt_182 (by decide) ?_
    refine lv_istore hx hb dJ17_parseInt_183 hl (by decide) rfl (fun ls hl => ?_)
    have hl : lv_has ls 11 [(9, .int 0), (8, .int (-214748364)), (5, .int (nI (u + 1))), (6, .int (-2147483648)), (4, .int 1), (7, .int (nI (T.getD (u) 0))), (0, .ref a), (1, .int (nI u)), (2, .int (nI (u + mn v + nd v.natAbs))), (3, .int 10)] := hl
    replace hl : lv_has ls 11 [(9, .int (iI (-(pfx v.natAbs 0 : Int)))), (8, .int (-214748364)), (5, .int (nI (u + 1 + 0))), (6, .int (-2147483648)), (4, .int 1), (7, .int (nI (T.getD (u) 0))), (0, .ref a), (1, .int (nI u)), (2, .int (nI (u + mn v + nd v.natAbs))), (3, .int 10)] := by
      rw [pfx_0]
      exact hl
    have loop1 : ∀ (n_ : Nat) (t : Nat), (t ≤ nd v.natAbs) → (nd v.natAbs - t) < n_ → ∀ (ls : Array Slot), lv_has ls 11 [(9, .int (iI (-(pfx v.natAbs t : Int)))), (8, .int (-214748364)), (5, .int (nI (u + 1 + t))), (6, .int (-2147483648)), (4, .int 1), (0, .ref a), (1, .int (nI u)), (2, .int (nI (u + mn v + nd v.natAbs))), (3, .int 10)] → W p l e { frames := 4, cells := 0, slots := 0, locals := 85 } s m [.ref a, .int (nI u), .int (nI (u + mn v + nd v.natAbs)), .int 10].toArray below meth c H0 [] 0 0 (MQ below (gPi H0 (fun r => r = iI v)) [.ref a, .int (nI u), .int (nI (u + mn v + nd v.natAbs)), .int 10].toArray s 0 0 (gno)) (F0 m 185 ls []) := by
      intro n_
      induction n_ with
      | zero => intro t ht hm_; exact absurd hm_ (Nat.not_lt_zero _)
      | succ n_ ih_loop1 =>
        intro t ht hm_ ls hl
        refine lv_iload hx hb dJ17_parseInt_185 (lv_at hl 2 rfl) ?_
        refine lv_iload_n hx hb dJ17_parseInt_187 rfl (lv_at hl 7 rfl) ?_
        refine lv_icmp_ge (tgt := 264) hx hb dJ17_parseInt_188 (by decide) (fun c_188 => ?_) (fun c_188 => ?_)
        · skip
          have c_188 := (ai_le (a := (u + mn v + nd v.natAbs)) (b := (u + 1 + t)) (rfl) (rfl) (by omega) (by omega)).mp c_188
          refine lv_iload hx hb dJ17_parseInt_264 (lv_at hl 4 rfl) ?_
          refine lv_if_eq (tgt := 274) hx hb dJ17_parseInt_266 (by decide) (fun c_266 => absurd c_266 (by decide)) (fun c_266 => ?_)
          refine lv_iload hx hb dJ17_parseInt_269 (lv_at hl 0 rfl) ?_
          refine lv_goto (tgt := 277) hx hb dJ17_parseInt_271 (by decide) ?_
          refine g_iretP hx hb hr hlocks ?_ dJ17_parseInt_277
          have e1 : t = nd v.natAbs := by omega
          subst e1
          rw [pfx_end]
          exact congrArg iI (by omega)
        · skip
          have c_188 := mt (ai_le (a := (u + mn v + nd v.natAbs)) (b := (u + 1 + t)) (rfl) (rfl) (by omega) (by omega)).mpr c_188
          have ht2 : t < nd v.natAbs := by omega
          have hd1 := dgt_lt v.natAbs t
          have hd2 := hn2 t ht2
          have hd3 := pfx_s ht2
          have hd4 := pfx_le v.natAbs (t + 1)
          refine lv_aload_n hx hb dJ17_parseInt_191 rfl (lv_at hl 5 rfl) ?_
          refine lv_iload hx hb dJ17_parseInt_192 (lv_at hl 2 rfl) ?_
          refine gcF1_iP (w_classAt hts q166).choose_spec hCF hwm hl.1 (m_charAt l z H0 a (u + 1 + t) w b T k fv (by omega) ⟨h, hzz, hO, hB, hT⟩ hs ) (va_cwF (x := ⟨"java/lang/CharSequence", "charAt", "(I)C"⟩) 1 hts (lw_app (lw_list4 q1449 q663 q539 q64) (lw_meth q541)) rfl rfl rfl (va_Fw.moved ⟨by decide, by decide⟩ hal hzw.2.2.2.1) ⟨by decide, by decide, by decide +kernel⟩ ⟨Nat.le_of_ble_eq_true rfl, Nat.le_of_ble_eq_true rfl⟩) (hO.recv hal) ⟨Nat.le_of_ble_eq_true rfl, Nat.le_of_ble_eq_true rfl⟩ (Nat.le_of_ble_eq_true rfl) dJ17_parseInt_194 (fun r_7 hp => ?_)
          subst hp
          rw [show u + 1 + t = u + mn v + t by omega, hd2]
          refine lv_iload_n hx hb dJ17_parseInt_199 rfl (lv_at hl 8 rfl) ?_
          refine gcS2_iP hCF hwm hl.1 (m_digit l z H0  (48 + dgt v.natAbs t) k (by omega) (by omega) hg hzw ) (lw_S q1452 q1410 q80 q1411) yd_J19_digit ⟨Nat.le_of_ble_eq_true rfl, Nat.le_of_ble_eq_true rfl⟩ ⟨Nat.le_of_ble_eq_true rfl, Nat.le_of_ble_eq_true rfl⟩ (Nat.le_of_ble_eq_true rfl) dJ17_parseInt_200 (fun r_8 hp => ?_)
          subst hp
          rw [show 48 + dgt v.natAbs t - 48 = dgt v.natAbs t by omega]
          refine lv_istore hx hb dJ17_parseInt_203 hl (by decide) rfl (fun ls hl => ?_)
          have hl : lv_has ls 11 [(10, .int (nI (dgt v.natAbs t))), (9, .int (iI (-(pfx v.natAbs t : Int)))), (8, .int (-214748364)), (5, .int (nI (u + 1 + t))), (6, .int (-2147483648)), (4, .int 1), (0, .ref a), (1, .int (nI u)), (2, .int (nI (u + mn v + nd v.natAbs))), (3, .int 10)] := hl
          refine lv_iload hx hb dJ17_parseInt_205 (lv_at hl 0 rfl) ?_
          refine lv_if_lt (tgt := 217) hx hb dJ17_parseInt_207 (by decide) (fun c_207 => False.elim (by
            have c_207 := (ai_lt (a := (dgt v.natAbs t)) (b := 0) (rfl) (rfl) (by omega) (by omega)).mp c_207
            omega)) (fun c_207 => ?_)
          have c_207 := mt (ai_lt (a := (dgt v.natAbs t)) (b := 0) (rfl) (rfl) (by omega) (by omega)).mpr c_207
          refine lv_iload hx hb dJ17_parseInt_210 (lv_at hl 1 rfl) ?_
          refine lv_iload hx hb dJ17_parseInt_212 (lv_at hl 2 rfl) ?_
          refine lv_icmp_ge (tgt := 226) hx hb dJ17_parseInt_214 (by decide) (fun c_214 => ?_) (fun c_214 => False.elim (by
            have c_214 := mt (ai_leI (a := (-214748364)) (b := (-(pfx v.natAbs t : Int))) (by decide) (rfl) (by omega) (by omega) (by omega) (by omega)).mpr c_214
            omega))
          have c_214 := (ai_leI (a := (-214748364)) (b := (-(pfx v.natAbs t : Int))) (by decide) (rfl) (by omega) (by omega) (by omega) (by omega)).mp c_214
          refine lv_iload hx hb dJ17_parseInt_226 (lv_at hl 1 rfl) ?_
          refine lv_iload_n hx hb dJ17_parseInt_228 rfl (lv_at hl 9 rfl) ?_
          refine lv_imul hx hb dJ17_parseInt_229 ?_
          refine g_topi (v := iI ((-(pfx v.natAbs t : Int)) * 10)) (ai_mulI (a := (-(pfx v.natAbs t : Int))) (b := 10) (rfl) (by decide)) ?_
          refine lv_istore hx hb dJ17_parseInt_230 hl (by decide) rfl (fun ls hl => ?_)
          have hl : lv_has ls 11 [(9, .int (iI ((-(pfx v.natAbs t : Int)) * 10))), (10, .int (nI (dgt v.natAbs t))), (8, .int (-214748364)), (5, .int (nI (u + 1 + t))), (6, .int (-2147483648)), (4, .int 1), (0, .ref a), (1, .int (nI u)), (2, .int (nI (u + mn v + nd v.natAbs))), (3, .int 10)] := hl
          refine lv_iload hx hb dJ17_parseInt_232 (lv_at hl 0 rfl) ?_
          refine lv_iload hx hb dJ17_parseInt_234 (lv_at hl 4 rfl) ?_
          refine lv_iload hx hb dJ17_parseInt_236 (lv_at hl 1 rfl) ?_
          refine lv_iadd hx hb dJ17_parseInt_238 ?_
          refine g_topi (v := iI ((-2147483648) + ((dgt v.natAbs t) : Nat))) (ai_addI (a := (-2147483648)) (b := ((dgt v.natAbs t) : Nat)) (by decide) (nI_iI _)) ?_
          refine lv_icmp_ge (tgt := 251) hx hb dJ17_parseInt_239 (by decide) (fun c_239 => ?_) (fun c_239 => False.elim (by
            have c_239 := mt (ai_leI (a := ((-2147483648) + ((dgt v.natAbs t) : Nat))) (b := ((-(pfx v.natAbs t : Int)) * 10)) (rfl) (rfl) (by omega) (by omega) (by omega) (by omega)).mpr c_239
            omega))
          have c_239 := (ai_leI (a := ((-2147483648) + ((dgt v.natAbs t) : Nat))) (b := ((-(pfx v.natAbs t : Int)) * 10)) (rfl) (rfl) (by omega) (by omega) (by omega) (by omega)).mp c_239
          refine lv_iinc (k := 3) (v := (nI (u + 1 + t + 1))) hx hb dJ17_parseInt_251 hl rfl (ai_add (rfl) (show Int32.ofInt 1 = nI 1 by decide)) (by decide) rfl (fun ls hl => ?_)
          have hl : lv_has ls 11 [(5, .int (nI (u + 1 + t + 1))), (9, .int (iI ((-(pfx v.natAbs t : Int)) * 10))), (10, .int (nI (dgt v.natAbs t))), (8, .int (-214748364)), (6, .int (-2147483648)), (4, .int 1), (0, .ref a), (1, .int (nI u)), (2, .int (nI (u + mn v + nd v.natAbs))), (3, .int 10)] := hl
          refine lv_iload hx hb dJ17_parseInt_254 (lv_at hl 1 rfl) ?_
          refine lv_iload hx hb dJ17_parseInt_256 (lv_at hl 2 rfl) ?_
          refine lv_isub hx hb dJ17_parseInt_258 ?_
          refine g_topi (v := iI (((-(pfx v.natAbs t : Int)) * 10) - ((dgt v.natAbs t) : Nat))) (ai_subI (a := ((-(pfx v.natAbs t : Int)) * 10)) (b := ((dgt v.natAbs t) : Nat)) (rfl) (nI_iI _)) ?_
          refine lv_istore hx hb dJ17_parseInt_259 hl (by decide) rfl (fun ls hl => ?_)
          have hl : lv_has ls 11 [(9, .int (iI (((-(pfx v.natAbs t : Int)) * 10) - ((dgt v.natAbs t) : Nat)))), (5, .int (nI (u + 1 + t + 1))), (10, .int (nI (dgt v.natAbs t))), (8, .int (-214748364)), (6, .int (-2147483648)), (4, .int 1), (0, .ref a), (1, .int (nI u)), (2, .int (nI (u + mn v + nd v.natAbs))), (3, .int 10)] := hl
          refine lv_goto (tgt := 185) hx hb dJ17_parseInt_261 (by decide) ?_
          replace hl : lv_has ls 11 [(9, .int (iI (-(pfx v.natAbs (t + 1) : Int)))), (5, .int (nI (u + 1 + (t + 1)))), (10, .int (nI (dgt v.natAbs t))), (8, .int (-214748364)), (6, .int (-2147483648)), (4, .int 1), (0, .ref a), (1, .int (nI u)), (2, .int (nI (u + mn v + nd v.natAbs))), (3, .int 10)] := by
            rw [pfx_s ht2, show -((10 * pfx v.natAbs t + dgt v.natAbs t : Nat) : Int) = (-(pfx v.natAbs t : Int)) * (10 : Nat) - (dgt v.natAbs t : Nat) by omega]
            exact hl
          exact ih_loop1 (t + 1) (by omega) (by omega) ls (lv_sub hl [0, 3, 1, 4, 5, 6, 7, 8, 9] rfl)
    exact loop1 _ 0 (Nat.zero_le _) (Nat.lt_succ_self _) ls (lv_sub hl [0, 1, 2, 3, 4, 6, 7, 8, 9] rfl)
