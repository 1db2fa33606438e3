/-! ## walks (written by tools) -/
set_option maxRecDepth 100000
def dkwJ24_rightShift_3 : List UInt8 := [167, 0, 8, 42, 29, 182, 0, 118, 177]
abbrev dktJ24_rightShift_3 : List UInt8 := dkwJ24_rightShift_3 ++ []
def dkwJ24_rightShift_2 : List UInt8 := [21, 4, 161, 0, 24, 42, 16, 32, 29, 100, 182, 0, 115, 42, 89, 180, 0, 21, 4, 100, 181, 0, 21]
abbrev dktJ24_rightShift_2 : List UInt8 := dkwJ24_rightShift_2 ++ dktJ24_rightShift_3
def dkwJ24_rightShift_1 : List UInt8 := [181, 0, 21, 29, 154, 0, 4, 177, 42, 180, 0, 17, 42, 180, 0, 11, 46, 184, 0, 112, 54, 4, 29]
abbrev dktJ24_rightShift_1 : List UInt8 := dkwJ24_rightShift_1 ++ dktJ24_rightShift_2
def dkwJ24_rightShift_0 : List UInt8 := [42, 180, 0, 21, 154, 0, 4, 177, 27, 8, 124, 61, 27, 16, 31, 126, 62, 42, 89, 180, 0, 21, 28, 100]
abbrev dktJ24_rightShift_0 : List UInt8 := dkwJ24_rightShift_0 ++ dktJ24_rightShift_1
theorem dksJ24_rightShift_0 : cJ24_rightShift.data.toList.drop 0 = dktJ24_rightShift_0 := by decide +kernel
theorem dksJ24_rightShift_1 : cJ24_rightShift.data.toList.drop 24 = dktJ24_rightShift_1 := dk_seg dksJ24_rightShift_0 24 rfl rfl
theorem dksJ24_rightShift_2 : cJ24_rightShift.data.toList.drop 47 = dktJ24_rightShift_2 := dk_seg dksJ24_rightShift_1 23 rfl rfl
theorem dksJ24_rightShift_3 : cJ24_rightShift.data.toList.drop 70 = dktJ24_rightShift_3 := dk_seg dksJ24_rightShift_2 23 rfl rfl
theorem dJ24_rightShift_0 : decode cJ24_rightShift 0 = .ok (.aload_n 0, 1) := dk_42 (dk_at dksJ24_rightShift_0 0 rfl rfl)
theorem dJ24_rightShift_1 : decode cJ24_rightShift 1 = .ok (.getfield 21, 3) := dk_180 0 21 (dk_at dksJ24_rightShift_0 1 rfl rfl)
theorem dJ24_rightShift_4 : decode cJ24_rightShift 4 = .ok (.ifCond .ne 4, 3) := dk_154 0 4 (dk_at dksJ24_rightShift_0 4 rfl rfl)
theorem dJ24_rightShift_7 : decode cJ24_rightShift 7 = .ok (.return_, 1) := dk_177 (dk_at dksJ24_rightShift_0 7 rfl rfl)
theorem dJ24_rightShift_8 : decode cJ24_rightShift 8 = .ok (.iload_n 1, 1) := dk_27 (dk_at dksJ24_rightShift_0 8 rfl rfl)
theorem dJ24_rightShift_9 : decode cJ24_rightShift 9 = .ok (.iconst 5, 1) := dk_8 (dk_at dksJ24_rightShift_0 9 rfl rfl)
theorem dJ24_rightShift_10 : decode cJ24_rightShift 10 = .ok (.iushr, 1) := dk_124 (dk_at dksJ24_rightShift_0 10 rfl rfl)
theorem dJ24_rightShift_11 : decode cJ24_rightShift 11 = .ok (.istore_n 2, 1) := dk_61 (dk_at dksJ24_rightShift_0 11 rfl rfl)
theorem dJ24_rightShift_12 : decode cJ24_rightShift 12 = .ok (.iload_n 1, 1) := dk_27 (dk_at dksJ24_rightShift_0 12 rfl rfl)
theorem dJ24_rightShift_13 : decode cJ24_rightShift 13 = .ok (.bipush 31, 2) := dk_16 31 (dk_at dksJ24_rightShift_0 13 rfl rfl)
theorem dJ24_rightShift_15 : decode cJ24_rightShift 15 = .ok (.iand, 1) := dk_126 (dk_at dksJ24_rightShift_0 15 rfl rfl)
theorem dJ24_rightShift_16 : decode cJ24_rightShift 16 = .ok (.istore_n 3, 1) := dk_62 (dk_at dksJ24_rightShift_0 16 rfl rfl)
theorem dJ24_rightShift_17 : decode cJ24_rightShift 17 = .ok (.aload_n 0, 1) := dk_42 (dk_at dksJ24_rightShift_0 17 rfl rfl)
theorem dJ24_rightShift_18 : decode cJ24_rightShift 18 = .ok (.dup, 1) := dk_89 (dk_at dksJ24_rightShift_0 18 rfl rfl)
theorem dJ24_rightShift_19 : decode cJ24_rightShift 19 = .ok (.getfield 21, 3) := dk_180 0 21 (dk_at dksJ24_rightShift_0 19 rfl rfl)
theorem dJ24_rightShift_22 : decode cJ24_rightShift 22 = .ok (.iload_n 2, 1) := dk_28 (dk_at dksJ24_rightShift_0 22 rfl rfl)
theorem dJ24_rightShift_23 : decode cJ24_rightShift 23 = .ok (.isub, 1) := dk_100 (dk_at dksJ24_rightShift_0 23 rfl rfl)
theorem dJ24_rightShift_24 : decode cJ24_rightShift 24 = .ok (.putfield 21, 3) := dk_181 0 21 (dk_at dksJ24_rightShift_1 0 rfl rfl)
theorem dJ24_rightShift_27 : decode cJ24_rightShift 27 = .ok (.iload_n 3, 1) := dk_29 (dk_at dksJ24_rightShift_1 3 rfl rfl)
theorem dJ24_rightShift_28 : decode cJ24_rightShift 28 = .ok (.ifCond .ne 4, 3) := dk_154 0 4 (dk_at dksJ24_rightShift_1 4 rfl rfl)
theorem dJ24_rightShift_31 : decode cJ24_rightShift 31 = .ok (.return_, 1) := dk_177 (dk_at dksJ24_rightShift_1 7 rfl rfl)
theorem dJ24_rightShift_32 : decode cJ24_rightShift 32 = .ok (.aload_n 0, 1) := dk_42 (dk_at dksJ24_rightShift_1 8 rfl rfl)
theorem dJ24_rightShift_33 : decode cJ24_rightShift 33 = .ok (.getfield 17, 3) := dk_180 0 17 (dk_at dksJ24_rightShift_1 9 rfl rfl)
theorem dJ24_rightShift_36 : decode cJ24_rightShift 36 = .ok (.aload_n 0, 1) := dk_42 (dk_at dksJ24_rightShift_1 12 rfl rfl)
theorem dJ24_rightShift_37 : decode cJ24_rightShift 37 = .ok (.getfield 11, 3) := dk_180 0 11 (dk_at dksJ24_rightShift_1 13 rfl rfl)
theorem dJ24_rightShift_40 : decode cJ24_rightShift 40 = .ok (.iaload, 1) := dk_46 (dk_at dksJ24_rightShift_1 16 rfl rfl)
theorem dJ24_rightShift_41 : decode cJ24_rightShift 41 = .ok (.invokestatic 112, 3) := dk_184 0 112 (dk_at dksJ24_rightShift_1 17 rfl rfl)
theorem dJ24_rightShift_44 : decode cJ24_rightShift 44 = .ok (.istore 4, 2) := dk_54 4 (dk_at dksJ24_rightShift_1 20 rfl rfl)
theorem dJ24_rightShift_46 : decode cJ24_rightShift 46 = .ok (.iload_n 3, 1) := dk_29 (dk_at dksJ24_rightShift_1 22 rfl rfl)
theorem dJ24_rightShift_47 : decode cJ24_rightShift 47 = .ok (.iload 4, 2) := dk_21 4 (dk_at dksJ24_rightShift_2 0 rfl rfl)
theorem dJ24_rightShift_49 : decode cJ24_rightShift 49 = .ok (.if_icmp .lt 24, 3) := dk_161 0 24 (dk_at dksJ24_rightShift_2 2 rfl rfl)
theorem dJ24_rightShift_52 : decode cJ24_rightShift 52 = .ok (.aload_n 0, 1) := dk_42 (dk_at dksJ24_rightShift_2 5 rfl rfl)
theorem dJ24_rightShift_53 : decode cJ24_rightShift 53 = .ok (.bipush 32, 2) := dk_16 32 (dk_at dksJ24_rightShift_2 6 rfl rfl)
theorem dJ24_rightShift_55 : decode cJ24_rightShift 55 = .ok (.iload_n 3, 1) := dk_29 (dk_at dksJ24_rightShift_2 8 rfl rfl)
theorem dJ24_rightShift_56 : decode cJ24_rightShift 56 = .ok (.isub, 1) := dk_100 (dk_at dksJ24_rightShift_2 9 rfl rfl)
theorem dJ24_rightShift_57 : decode cJ24_rightShift 57 = .ok (.invokevirtual 115, 3) := dk_182 0 115 (dk_at dksJ24_rightShift_2 10 rfl rfl)
theorem dJ24_rightShift_60 : decode cJ24_rightShift 60 = .ok (.aload_n 0, 1) := dk_42 (dk_at dksJ24_rightShift_2 13 rfl rfl)
theorem dJ24_rightShift_61 : decode cJ24_rightShift 61 = .ok (.dup, 1) := dk_89 (dk_at dksJ24_rightShift_2 14 rfl rfl)
theorem dJ24_rightShift_62 : decode cJ24_rightShift 62 = .ok (.getfield 21, 3) := dk_180 0 21 (dk_at dksJ24_rightShift_2 15 rfl rfl)
theorem dJ24_rightShift_65 : decode cJ24_rightShift 65 = .ok (.iconst 1, 1) := dk_4 (dk_at dksJ24_rightShift_2 18 rfl rfl)
theorem dJ24_rightShift_66 : decode cJ24_rightShift 66 = .ok (.isub, 1) := dk_100 (dk_at dksJ24_rightShift_2 19 rfl rfl)
theorem dJ24_rightShift_67 : decode cJ24_rightShift 67 = .ok (.putfield 21, 3) := dk_181 0 21 (dk_at dksJ24_rightShift_2 20 rfl rfl)
theorem dJ24_rightShift_70 : decode cJ24_rightShift 70 = .ok (.goto 8, 3) := dk_167 0 8 (dk_at dksJ24_rightShift_3 0 rfl rfl)
theorem dJ24_rightShift_73 : decode cJ24_rightShift 73 = .ok (.aload_n 0, 1) := dk_42 (dk_at dksJ24_rightShift_3 3 rfl rfl)
theorem dJ24_rightShift_74 : decode cJ24_rightShift 74 = .ok (.iload_n 3, 1) := dk_29 (dk_at dksJ24_rightShift_3 4 rfl rfl)
theorem dJ24_rightShift_75 : decode cJ24_rightShift 75 = .ok (.invokevirtual 118, 3) := dk_182 0 118 (dk_at dksJ24_rightShift_3 5 rfl rfl)
theorem dJ24_rightShift_78 : decode cJ24_rightShift 78 = .ok (.return_, 1) := dk_177 (dk_at dksJ24_rightShift_3 8 rfl rfl)
def dkwJ24_divideOneWord_14 : List UInt8 := [21, 6, 172]
abbrev dktJ24_divideOneWord_14 : List UInt8 := dkwJ24_divideOneWord_14 ++ []
def dkwJ24_divideOneWord_13 : List UInt8 := [133, 20, 0, 52, 127, 55, 7, 167, 255, 142, 44, 182, 0, 64, 21, 5, 158, 0, 8, 21, 6, 27, 112, 172]
abbrev dktJ24_divideOneWord_13 : List UInt8 := dkwJ24_divideOneWord_13 ++ dktJ24_divideOneWord_14
def dkwJ24_divideOneWord_12 : List UInt8 := [22, 13, 16, 32, 125, 136, 54, 6, 44, 180, 0, 17, 42, 180, 0, 21, 21, 9, 100, 21, 12, 79, 21, 6]
abbrev dktJ24_divideOneWord_12 : List UInt8 := dkwJ24_divideOneWord_12 ++ dktJ24_divideOneWord_13
def dkwJ24_divideOneWord_11 : List UInt8 := [136, 54, 6, 167, 0, 28, 22, 10, 27, 184, 0, 155, 55, 13, 22, 13, 20, 0, 52, 127, 136, 54, 12]
abbrev dktJ24_divideOneWord_11 : List UInt8 := dkwJ24_divideOneWord_11 ++ dktJ24_divideOneWord_12
def dkwJ24_divideOneWord_10 : List UInt8 := [55, 10, 22, 10, 9, 148, 155, 0, 24, 22, 10, 33, 109, 136, 54, 12, 22, 10, 21, 12, 133, 33, 105, 101]
abbrev dktJ24_divideOneWord_10 : List UInt8 := dkwJ24_divideOneWord_10 ++ dktJ24_divideOneWord_11
def dkwJ24_divideOneWord_9 : List UInt8 := [121, 42, 180, 0, 17, 42, 180, 0, 11, 42, 180, 0, 21, 96, 21, 9, 100, 46, 133, 20, 0, 52, 127, 129]
abbrev dktJ24_divideOneWord_9 : List UInt8 := dkwJ24_divideOneWord_9 ++ dktJ24_divideOneWord_10
def dkwJ24_divideOneWord_8 : List UInt8 := [20, 0, 52, 127, 55, 7, 42, 180, 0, 21, 54, 9, 132, 9, 255, 21, 9, 158, 0, 112, 22, 7, 16, 32]
abbrev dktJ24_divideOneWord_8 : List UInt8 := dkwJ24_divideOneWord_8 ++ dktJ24_divideOneWord_9
def dkwJ24_divideOneWord_7 : List UInt8 := [22, 7, 33, 109, 136, 79, 22, 7, 44, 180, 0, 17, 3, 46, 133, 33, 105, 101, 136, 54, 6, 21, 6, 133]
abbrev dktJ24_divideOneWord_7 : List UInt8 := dkwJ24_divideOneWord_7 ++ dktJ24_divideOneWord_8
def dkwJ24_divideOneWord_6 : List UInt8 := [55, 7, 22, 7, 33, 148, 156, 0, 13, 44, 180, 0, 17, 3, 3, 79, 167, 0, 38, 44, 180, 0, 17, 3]
abbrev dktJ24_divideOneWord_6 : List UInt8 := dkwJ24_divideOneWord_6 ++ dktJ24_divideOneWord_7
def dkwJ24_divideOneWord_5 : List UInt8 := [184, 0, 152, 54, 5, 42, 180, 0, 17, 42, 180, 0, 11, 46, 54, 6, 21, 6, 133, 20, 0, 52, 127]
abbrev dktJ24_divideOneWord_5 : List UInt8 := dkwJ24_divideOneWord_5 ++ dktJ24_divideOneWord_6
def dkwJ24_divideOneWord_4 : List UInt8 := [180, 0, 21, 188, 10, 181, 0, 17, 44, 3, 181, 0, 11, 44, 42, 180, 0, 21, 181, 0, 21, 27]
abbrev dktJ24_divideOneWord_4 : List UInt8 := dkwJ24_divideOneWord_4 ++ dktJ24_divideOneWord_5
def dkwJ24_divideOneWord_3 : List UInt8 := [44, 3, 181, 0, 11, 21, 8, 172, 44, 180, 0, 17, 190, 42, 180, 0, 21, 162, 0, 13, 44, 42]
abbrev dktJ24_divideOneWord_3 : List UInt8 := dkwJ24_divideOneWord_3 ++ dktJ24_divideOneWord_4
def dkwJ24_divideOneWord_2 : List UInt8 := [54, 8, 44, 180, 0, 17, 3, 21, 7, 79, 44, 21, 7, 154, 0, 7, 3, 167, 0, 4, 4, 181, 0, 21]
abbrev dktJ24_divideOneWord_2 : List UInt8 := dkwJ24_divideOneWord_2 ++ dktJ24_divideOneWord_3
def dkwJ24_divideOneWord_1 : List UInt8 := [133, 20, 0, 52, 127, 55, 5, 22, 5, 33, 109, 136, 54, 7, 22, 5, 21, 7, 133, 33, 105, 101, 136]
abbrev dktJ24_divideOneWord_1 : List UInt8 := dkwJ24_divideOneWord_1 ++ dktJ24_divideOneWord_2
def dkwJ24_divideOneWord_0 : List UInt8 := [27, 133, 20, 0, 52, 127, 66, 42, 180, 0, 21, 4, 160, 0, 67, 42, 180, 0, 17, 42, 180, 0, 11, 46]
abbrev dktJ24_divideOneWord_0 : List UInt8 := dkwJ24_divideOneWord_0 ++ dktJ24_divideOneWord_1
theorem dksJ24_divideOneWord_0 : cJ24_divideOneWord.data.toList.drop 0 = dktJ24_divideOneWord_0 := by decide +kernel
theorem dksJ24_divideOneWord_1 : cJ24_divideOneWord.data.toList.drop 24 = dktJ24_divideOneWord_1 := dk_seg dksJ24_divideOneWord_0 24 rfl rfl
theorem dksJ24_divideOneWord_2 : cJ24_divideOneWord.data.toList.drop 47 = dktJ24_divideOneWord_2 := dk_seg dksJ24_divideOneWord_1 23 rfl rfl
theorem dksJ24_divideOneWord_3 : cJ24_divideOneWord.data.toList.drop 71 = dktJ24_divideOneWord_3 := dk_seg dksJ24_divideOneWord_2 24 rfl rfl
theorem dksJ24_divideOneWord_4 : cJ24_divideOneWord.data.toList.drop 93 = dktJ24_divideOneWord_4 := dk_seg dksJ24_divideOneWord_3 22 rfl rfl
theorem dksJ24_divideOneWord_5 : cJ24_divideOneWord.data.toList.drop 115 = dktJ24_divideOneWord_5 := dk_seg dksJ24_divideOneWord_4 22 rfl rfl
theorem dksJ24_divideOneWord_6 : cJ24_divideOneWord.data.toList.drop 138 = dktJ24_divideOneWord_6 := dk_seg dksJ24_divideOneWord_5 23 rfl rfl
theorem dksJ24_divideOneWord_7 : cJ24_divideOneWord.data.toList.drop 162 = dktJ24_divideOneWord_7 := dk_seg dksJ24_divideOneWord_6 24 rfl rfl
theorem dksJ24_divideOneWord_8 : cJ24_divideOneWord.data.toList.drop 186 = dktJ24_divideOneWord_8 := dk_seg dksJ24_divideOneWord_7 24 rfl rfl
theorem dksJ24_divideOneWord_9 : cJ24_divideOneWord.data.toList.drop 210 = dktJ24_divideOneWord_9 := dk_seg dksJ24_divideOneWord_8 24 rfl rfl
theorem dksJ24_divideOneWord_10 : cJ24_divideOneWord.data.toList.drop 234 = dktJ24_divideOneWord_10 := dk_seg dksJ24_divideOneWord_9 24 rfl rfl
theorem dksJ24_divideOneWord_11 : cJ24_divideOneWord.data.toList.drop 258 = dktJ24_divideOneWord_11 := dk_seg dksJ24_divideOneWord_10 24 rfl rfl
theorem dksJ24_divideOneWord_12 : cJ24_divideOneWord.data.toList.drop 281 = dktJ24_divideOneWord_12 := dk_seg dksJ24_divideOneWord_11 23 rfl rfl
theorem dksJ24_divideOneWord_13 : cJ24_divideOneWord.data.toList.drop 305 = dktJ24_divideOneWord_13 := dk_seg dksJ24_divideOneWord_12 24 rfl rfl
theorem dksJ24_divideOneWord_14 : cJ24_divideOneWord.data.toList.drop 329 = dktJ24_divideOneWord_14 := dk_seg dksJ24_divideOneWord_13 24 rfl rfl
theorem dJ24_divideOneWord_0 : decode cJ24_divideOneWord 0 = .ok (.iload_n 1, 1) := dk_27 (dk_at dksJ24_divideOneWord_0 0 rfl rfl)
theorem dJ24_divideOneWord_1 : decode cJ24_divideOneWord 1 = .ok (.i2l, 1) := dk_133 (dk_at dksJ24_divideOneWord_0 1 rfl rfl)
theorem dJ24_divideOneWord_2 : decode cJ24_divideOneWord 2 = .ok (.ldc2_w 52, 3) := dk_20 0 52 (dk_at dksJ24_divideOneWord_0 2 rfl rfl)
theorem dJ24_divideOneWord_5 : decode cJ24_divideOneWord 5 = .ok (.land, 1) := dk_127 (dk_at dksJ24_divideOneWord_0 5 rfl rfl)
theorem dJ24_divideOneWord_6 : decode cJ24_divideOneWord 6 = .ok (.lstore_n 3, 1) := dk_66 (dk_at dksJ24_divideOneWord_0 6 rfl rfl)
theorem dJ24_divideOneWord_7 : decode cJ24_divideOneWord 7 = .ok (.aload_n 0, 1) := dk_42 (dk_at dksJ24_divideOneWord_0 7 rfl rfl)
theorem dJ24_divideOneWord_8 : decode cJ24_divideOneWord 8 = .ok (.getfield 21, 3) := dk_180 0 21 (dk_at dksJ24_divideOneWord_0 8 rfl rfl)
theorem dJ24_divideOneWord_11 : decode cJ24_divideOneWord 11 = .ok (.iconst 1, 1) := dk_4 (dk_at dksJ24_divideOneWord_0 11 rfl rfl)
theorem dJ24_divideOneWord_12 : decode cJ24_divideOneWord 12 = .ok (.if_icmp .ne 67, 3) := dk_160 0 67 (dk_at dksJ24_divideOneWord_0 12 rfl rfl)
theorem dJ24_divideOneWord_15 : decode cJ24_divideOneWord 15 = .ok (.aload_n 0, 1) := dk_42 (dk_at dksJ24_divideOneWord_0 15 rfl rfl)
theorem dJ24_divideOneWord_16 : decode cJ24_divideOneWord 16 = .ok (.getfield 17, 3) := dk_180 0 17 (dk_at dksJ24_divideOneWord_0 16 rfl rfl)
theorem dJ24_divideOneWord_19 : decode cJ24_divideOneWord 19 = .ok (.aload_n 0, 1) := dk_42 (dk_at dksJ24_divideOneWord_0 19 rfl rfl)
theorem dJ24_divideOneWord_20 : decode cJ24_divideOneWord 20 = .ok (.getfield 11, 3) := dk_180 0 11 (dk_at dksJ24_divideOneWord_0 20 rfl rfl)
theorem dJ24_divideOneWord_23 : decode cJ24_divideOneWord 23 = .ok (.iaload, 1) := dk_46 (dk_at dksJ24_divideOneWord_0 23 rfl rfl)
theorem dJ24_divideOneWord_24 : decode cJ24_divideOneWord 24 = .ok (.i2l, 1) := dk_133 (dk_at dksJ24_divideOneWord_1 0 rfl rfl)
theorem dJ24_divideOneWord_25 : decode cJ24_divideOneWord 25 = .ok (.ldc2_w 52, 3) := dk_20 0 52 (dk_at dksJ24_divideOneWord_1 1 rfl rfl)
theorem dJ24_divideOneWord_28 : decode cJ24_divideOneWord 28 = .ok (.land, 1) := dk_127 (dk_at dksJ24_divideOneWord_1 4 rfl rfl)
theorem dJ24_divideOneWord_29 : decode cJ24_divideOneWord 29 = .ok (.lstore 5, 2) := dk_55 5 (dk_at dksJ24_divideOneWord_1 5 rfl rfl)
theorem dJ24_divideOneWord_31 : decode cJ24_divideOneWord 31 = .ok (.lload 5, 2) := dk_22 5 (dk_at dksJ24_divideOneWord_1 7 rfl rfl)
theorem dJ24_divideOneWord_33 : decode cJ24_divideOneWord 33 = .ok (.lload_n 3, 1) := dk_33 (dk_at dksJ24_divideOneWord_1 9 rfl rfl)
theorem dJ24_divideOneWord_34 : decode cJ24_divideOneWord 34 = .ok (.ldiv, 1) := dk_109 (dk_at dksJ24_divideOneWord_1 10 rfl rfl)
theorem dJ24_divideOneWord_35 : decode cJ24_divideOneWord 35 = .ok (.l2i, 1) := dk_136 (dk_at dksJ24_divideOneWord_1 11 rfl rfl)
theorem dJ24_divideOneWord_36 : decode cJ24_divideOneWord 36 = .ok (.istore 7, 2) := dk_54 7 (dk_at dksJ24_divideOneWord_1 12 rfl rfl)
theorem dJ24_divideOneWord_38 : decode cJ24_divideOneWord 38 = .ok (.lload 5, 2) := dk_22 5 (dk_at dksJ24_divideOneWord_1 14 rfl rfl)
theorem dJ24_divideOneWord_40 : decode cJ24_divideOneWord 40 = .ok (.iload 7, 2) := dk_21 7 (dk_at dksJ24_divideOneWord_1 16 rfl rfl)
theorem dJ24_divideOneWord_42 : decode cJ24_divideOneWord 42 = .ok (.i2l, 1) := dk_133 (dk_at dksJ24_divideOneWord_1 18 rfl rfl)
theorem dJ24_divideOneWord_43 : decode cJ24_divideOneWord 43 = .ok (.lload_n 3, 1) := dk_33 (dk_at dksJ24_divideOneWord_1 19 rfl rfl)
theorem dJ24_divideOneWord_44 : decode cJ24_divideOneWord 44 = .ok (.lmul, 1) := dk_105 (dk_at dksJ24_divideOneWord_1 20 rfl rfl)
theorem dJ24_divideOneWord_45 : decode cJ24_divideOneWord 45 = .ok (.lsub, 1) := dk_101 (dk_at dksJ24_divideOneWord_1 21 rfl rfl)
theorem dJ24_divideOneWord_46 : decode cJ24_divideOneWord 46 = .ok (.l2i, 1) := dk_136 (dk_at dksJ24_divideOneWord_1 22 rfl rfl)
theorem dJ24_divideOneWord_47 : decode cJ24_divideOneWord 47 = .ok (.istore 8, 2) := dk_54 8 (dk_at dksJ24_divideOneWord_2 0 rfl rfl)
theorem dJ24_divideOneWord_49 : decode cJ24_divideOneWord 49 = .ok (.aload_n 2, 1) := dk_44 (dk_at dksJ24_divideOneWord_2 2 rfl rfl)
theorem dJ24_divideOneWord_50 : decode cJ24_divideOneWord 50 = .ok (.getfield 17, 3) := dk_180 0 17 (dk_at dksJ24_divideOneWord_2 3 rfl rfl)
theorem dJ24_divideOneWord_53 : decode cJ24_divideOneWord 53 = .ok (.iconst 0, 1) := dk_3 (dk_at dksJ24_divideOneWord_2 6 rfl rfl)
theorem dJ24_divideOneWord_54 : decode cJ24_divideOneWord 54 = .ok (.iload 7, 2) := dk_21 7 (dk_at dksJ24_divideOneWord_2 7 rfl rfl)
theorem dJ24_divideOneWord_56 : decode cJ24_divideOneWord 56 = .ok (.iastore, 1) := dk_79 (dk_at dksJ24_divideOneWord_2 9 rfl rfl)
theorem dJ24_divideOneWord_57 : decode cJ24_divideOneWord 57 = .ok (.aload_n 2, 1) := dk_44 (dk_at dksJ24_divideOneWord_2 10 rfl rfl)
theorem dJ24_divideOneWord_58 : decode cJ24_divideOneWord 58 = .ok (.iload 7, 2) := dk_21 7 (dk_at dksJ24_divideOneWord_2 11 rfl rfl)
theorem dJ24_divideOneWord_60 : decode cJ24_divideOneWord 60 = .ok (.ifCond .ne 7, 3) := dk_154 0 7 (dk_at dksJ24_divideOneWord_2 13 rfl rfl)
theorem dJ24_divideOneWord_63 : decode cJ24_divideOneWord 63 = .ok (.iconst 0, 1) := dk_3 (dk_at dksJ24_divideOneWord_2 16 rfl rfl)
theorem dJ24_divideOneWord_64 : decode cJ24_divideOneWord 64 = .ok (.goto 4, 3) := dk_167 0 4 (dk_at dksJ24_divideOneWord_2 17 rfl rfl)
theorem dJ24_divideOneWord_67 : decode cJ24_divideOneWord 67 = .ok (.iconst 1, 1) := dk_4 (dk_at dksJ24_divideOneWord_2 20 rfl rfl)
theorem dJ24_divideOneWord_68 : decode cJ24_divideOneWord 68 = .ok (.putfield 21, 3) := dk_181 0 21 (dk_at dksJ24_divideOneWord_2 21 rfl rfl)
theorem dJ24_divideOneWord_71 : decode cJ24_divideOneWord 71 = .ok (.aload_n 2, 1) := dk_44 (dk_at dksJ24_divideOneWord_3 0 rfl rfl)
theorem dJ24_divideOneWord_72 : decode cJ24_divideOneWord 72 = .ok (.iconst 0, 1) := dk_3 (dk_at dksJ24_divideOneWord_3 1 rfl rfl)
theorem dJ24_divideOneWord_73 : decode cJ24_divideOneWord 73 = .ok (.putfield 11, 3) := dk_181 0 11 (dk_at dksJ24_divideOneWord_3 2 rfl rfl)
theorem dJ24_divideOneWord_76 : decode cJ24_divideOneWord 76 = .ok (.iload 8, 2) := dk_21 8 (dk_at dksJ24_divideOneWord_3 5 rfl rfl)
theorem dJ24_divideOneWord_78 : decode cJ24_divideOneWord 78 = .ok (.ireturn, 1) := dk_172 (dk_at dksJ24_divideOneWord_3 7 rfl rfl)
theorem dJ24_divideOneWord_79 : decode cJ24_divideOneWord 79 = .ok (.aload_n 2, 1) := dk_44 (dk_at dksJ24_divideOneWord_3 8 rfl rfl)
theorem dJ24_divideOneWord_80 : decode cJ24_divideOneWord 80 = .ok (.getfield 17, 3) := dk_180 0 17 (dk_at dksJ24_divideOneWord_3 9 rfl rfl)
theorem dJ24_divideOneWord_83 : decode cJ24_divideOneWord 83 = .ok (.arraylength, 1) := dk_190 (dk_at dksJ24_divideOneWord_3 12 rfl rfl)
theorem dJ24_divideOneWord_84 : decode cJ24_divideOneWord 84 = .ok (.aload_n 0, 1) := dk_42 (dk_at dksJ24_divideOneWord_3 13 rfl rfl)
theorem dJ24_divideOneWord_85 : decode cJ24_divideOneWord 85 = .ok (.getfield 21, 3) := dk_180 0 21 (dk_at dksJ24_divideOneWord_3 14 rfl rfl)
theorem dJ24_divideOneWord_88 : decode cJ24_divideOneWord 88 = .ok (.if_icmp .ge 13, 3) := dk_162 0 13 (dk_at dksJ24_divideOneWord_3 17 rfl rfl)
theorem dJ24_divideOneWord_91 : decode cJ24_divideOneWord 91 = .ok (.aload_n 2, 1) := dk_44 (dk_at dksJ24_divideOneWord_3 20 rfl rfl)
theorem dJ24_divideOneWord_92 : decode cJ24_divideOneWord 92 = .ok (.aload_n 0, 1) := dk_42 (dk_at dksJ24_divideOneWord_3 21 rfl rfl)
theorem dJ24_divideOneWord_93 : decode cJ24_divideOneWord 93 = .ok (.getfield 21, 3) := dk_180 0 21 (dk_at dksJ24_divideOneWord_4 0 rfl rfl)
theorem dJ24_divideOneWord_96 : decode cJ24_divideOneWord 96 = .ok (.newarray .int, 2) := dk_188_10 (dk_at dksJ24_divideOneWord_4 3 rfl rfl)
theorem dJ24_divideOneWord_98 : decode cJ24_divideOneWord 98 = .ok (.putfield 17, 3) := dk_181 0 17 (dk_at dksJ24_divideOneWord_4 5 rfl rfl)
theorem dJ24_divideOneWord_101 : decode cJ24_divideOneWord 101 = .ok (.aload_n 2, 1) := dk_44 (dk_at dksJ24_divideOneWord_4 8 rfl rfl)
theorem dJ24_divideOneWord_102 : decode cJ24_divideOneWord 102 = .ok (.iconst 0, 1) := dk_3 (dk_at dksJ24_divideOneWord_4 9 rfl rfl)
theorem dJ24_divideOneWord_103 : decode cJ24_divideOneWord 103 = .ok (.putfield 11, 3) := dk_181 0 11 (dk_at dksJ24_divideOneWord_4 10 rfl rfl)
theorem dJ24_divideOneWord_106 : decode cJ24_divideOneWord 106 = .ok (.aload_n 2, 1) := dk_44 (dk_at dksJ24_divideOneWord_4 13 rfl rfl)
theorem dJ24_divideOneWord_107 : decode cJ24_divideOneWord 107 = .ok (.aload_n 0, 1) := dk_42 (dk_at dksJ24_divideOneWord_4 14 rfl rfl)
theorem dJ24_divideOneWord_108 : decode cJ24_divideOneWord 108 = .ok (.getfield 21, 3) := dk_180 0 21 (dk_at dksJ24_divideOneWord_4 15 rfl rfl)
theorem dJ24_divideOneWord_111 : decode cJ24_divideOneWord 111 = .ok (.putfield 21, 3) := dk_181 0 21 (dk_at dksJ24_divideOneWord_4 18 rfl rfl)
theorem dJ24_divideOneWord_114 : decode cJ24_divideOneWord 114 = .ok (.iload_n 1, 1) := dk_27 (dk_at dksJ24_divideOneWord_4 21 rfl rfl)
theorem dJ24_divideOneWord_115 : decode cJ24_divideOneWord 115 = .ok (.invokestatic 152, 3) := dk_184 0 152 (dk_at dksJ24_divideOneWord_5 0 rfl rfl)
theorem dJ24_divideOneWord_118 : decode cJ24_divideOneWord 118 = .ok (.istore 5, 2) := dk_54 5 (dk_at dksJ24_divideOneWord_5 3 rfl rfl)
theorem dJ24_divideOneWord_120 : decode cJ24_divideOneWord 120 = .ok (.aload_n 0, 1) := dk_42 (dk_at dksJ24_divideOneWord_5 5 rfl rfl)
theorem dJ24_divideOneWord_121 : decode cJ24_divideOneWord 121 = .ok (.getfield 17, 3) := dk_180 0 17 (dk_at dksJ24_divideOneWord_5 6 rfl rfl)
theorem dJ24_divideOneWord_124 : decode cJ24_divideOneWord 124 = .ok (.aload_n 0, 1) := dk_42 (dk_at dksJ24_divideOneWord_5 9 rfl rfl)
theorem dJ24_divideOneWord_125 : decode cJ24_divideOneWord 125 = .ok (.getfield 11, 3) := dk_180 0 11 (dk_at dksJ24_divideOneWord_5 10 rfl rfl)
theorem dJ24_divideOneWord_128 : decode cJ24_divideOneWord 128 = .ok (.iaload, 1) := dk_46 (dk_at dksJ24_divideOneWord_5 13 rfl rfl)
theorem dJ24_divideOneWord_129 : decode cJ24_divideOneWord 129 = .ok (.istore 6, 2) := dk_54 6 (dk_at dksJ24_divideOneWord_5 14 rfl rfl)
theorem dJ24_divideOneWord_131 : decode cJ24_divideOneWord 131 = .ok (.iload 6, 2) := dk_21 6 (dk_at dksJ24_divideOneWord_5 16 rfl rfl)
theorem dJ24_divideOneWord_133 : decode cJ24_divideOneWord 133 = .ok (.i2l, 1) := dk_133 (dk_at dksJ24_divideOneWord_5 18 rfl rfl)
theorem dJ24_divideOneWord_134 : decode cJ24_divideOneWord 134 = .ok (.ldc2_w 52, 3) := dk_20 0 52 (dk_at dksJ24_divideOneWord_5 19 rfl rfl)
theorem dJ24_divideOneWord_137 : decode cJ24_divideOneWord 137 = .ok (.land, 1) := dk_127 (dk_at dksJ24_divideOneWord_5 22 rfl rfl)
theorem dJ24_divideOneWord_138 : decode cJ24_divideOneWord 138 = .ok (.lstore 7, 2) := dk_55 7 (dk_at dksJ24_divideOneWord_6 0 rfl rfl)
theorem dJ24_divideOneWord_140 : decode cJ24_divideOneWord 140 = .ok (.lload 7, 2) := dk_22 7 (dk_at dksJ24_divideOneWord_6 2 rfl rfl)
theorem dJ24_divideOneWord_142 : decode cJ24_divideOneWord 142 = .ok (.lload_n 3, 1) := dk_33 (dk_at dksJ24_divideOneWord_6 4 rfl rfl)
theorem dJ24_divideOneWord_143 : decode cJ24_divideOneWord 143 = .ok (.lcmp, 1) := dk_148 (dk_at dksJ24_divideOneWord_6 5 rfl rfl)
theorem dJ24_divideOneWord_144 : decode cJ24_divideOneWord 144 = .ok (.ifCond .ge 13, 3) := dk_156 0 13 (dk_at dksJ24_divideOneWord_6 6 rfl rfl)
theorem dJ24_divideOneWord_147 : decode cJ24_divideOneWord 147 = .ok (.aload_n 2, 1) := dk_44 (dk_at dksJ24_divideOneWord_6 9 rfl rfl)
theorem dJ24_divideOneWord_148 : decode cJ24_divideOneWord 148 = .ok (.getfield 17, 3) := dk_180 0 17 (dk_at dksJ24_divideOneWord_6 10 rfl rfl)
theorem dJ24_divideOneWord_151 : decode cJ24_divideOneWord 151 = .ok (.iconst 0, 1) := dk_3 (dk_at dksJ24_divideOneWord_6 13 rfl rfl)
theorem dJ24_divideOneWord_152 : decode cJ24_divideOneWord 152 = .ok (.iconst 0, 1) := dk_3 (dk_at dksJ24_divideOneWord_6 14 rfl rfl)
theorem dJ24_divideOneWord_153 : decode cJ24_divideOneWord 153 = .ok (.iastore, 1) := dk_79 (dk_at dksJ24_divideOneWord_6 15 rfl rfl)
theorem dJ24_divideOneWord_154 : decode cJ24_divideOneWord 154 = .ok (.goto 38, 3) := dk_167 0 38 (dk_at dksJ24_divideOneWord_6 16 rfl rfl)
theorem dJ24_divideOneWord_157 : decode cJ24_divideOneWord 157 = .ok (.aload_n 2, 1) := dk_44 (dk_at dksJ24_divideOneWord_6 19 rfl rfl)
theorem dJ24_divideOneWord_158 : decode cJ24_divideOneWord 158 = .ok (.getfield 17, 3) := dk_180 0 17 (dk_at dksJ24_divideOneWord_6 20 rfl rfl)
theorem dJ24_divideOneWord_161 : decode cJ24_divideOneWord 161 = .ok (.iconst 0, 1) := dk_3 (dk_at dksJ24_divideOneWord_6 23 rfl rfl)
theorem dJ24_divideOneWord_162 : decode cJ24_divideOneWord 162 = .ok (.lload 7, 2) := dk_22 7 (dk_at dksJ24_divideOneWord_7 0 rfl rfl)
theorem dJ24_divideOneWord_164 : decode cJ24_divideOneWord 164 = .ok (.lload_n 3, 1) := dk_33 (dk_at dksJ24_divideOneWord_7 2 rfl rfl)
theorem dJ24_divideOneWord_165 : decode cJ24_divideOneWord 165 = .ok (.ldiv, 1) := dk_109 (dk_at dksJ24_divideOneWord_7 3 rfl rfl)
theorem dJ24_divideOneWord_166 : decode cJ24_divideOneWord 166 = .ok (.l2i, 1) := dk_136 (dk_at dksJ24_divideOneWord_7 4 rfl rfl)
theorem dJ24_divideOneWord_167 : decode cJ24_divideOneWord 167 = .ok (.iastore, 1) := dk_79 (dk_at dksJ24_divideOneWord_7 5 rfl rfl)
theorem dJ24_divideOneWord_168 : decode cJ24_divideOneWord 168 = .ok (.lload 7, 2) := dk_22 7 (dk_at dksJ24_divideOneWord_7 6 rfl rfl)
theorem dJ24_divideOneWord_170 : decode cJ24_divideOneWord 170 = .ok (.aload_n 2, 1) := dk_44 (dk_at dksJ24_divideOneWord_7 8 rfl rfl)
theorem dJ24_divideOneWord_171 : decode cJ24_divideOneWord 171 = .ok (.getfield 17, 3) := dk_180 0 17 (dk_at dksJ24_divideOneWord_7 9 rfl rfl)
theorem dJ24_divideOneWord_174 : decode cJ24_divideOneWord 174 = .ok (.iconst 0, 1) := dk_3 (dk_at dksJ24_divideOneWord_7 12 rfl rfl)
theorem dJ24_divideOneWord_175 : decode cJ24_divideOneWord 175 = .ok (.iaload, 1) := dk_46 (dk_at dksJ24_divideOneWord_7 13 rfl rfl)
theorem dJ24_divideOneWord_176 : decode cJ24_divideOneWord 176 = .ok (.i2l, 1) := dk_133 (dk_at dksJ24_divideOneWord_7 14 rfl rfl)
theorem dJ24_divideOneWord_177 : decode cJ24_divideOneWord 177 = .ok (.lload_n 3, 1) := dk_33 (dk_at dksJ24_divideOneWord_7 15 rfl rfl)
theorem dJ24_divideOneWord_178 : decode cJ24_divideOneWord 178 = .ok (.lmul, 1) := dk_105 (dk_at dksJ24_divideOneWord_7 16 rfl rfl)
theorem dJ24_divideOneWord_179 : decode cJ24_divideOneWord 179 = .ok (.lsub, 1) := dk_101 (dk_at dksJ24_divideOneWord_7 17 rfl rfl)
theorem dJ24_divideOneWord_180 : decode cJ24_divideOneWord 180 = .ok (.l2i, 1) := dk_136 (dk_at dksJ24_divideOneWord_7 18 rfl rfl)
theorem dJ24_divideOneWord_181 : decode cJ24_divideOneWord 181 = .ok (.istore 6, 2) := dk_54 6 (dk_at dksJ24_divideOneWord_7 19 rfl rfl)
theorem dJ24_divideOneWord_183 : decode cJ24_divideOneWord 183 = .ok (.iload 6, 2) := dk_21 6 (dk_at dksJ24_divideOneWord_7 21 rfl rfl)
theorem dJ24_divideOneWord_185 : decode cJ24_divideOneWord 185 = .ok (.i2l, 1) := dk_133 (dk_at dksJ24_divideOneWord_7 23 rfl rfl)
theorem dJ24_divideOneWord_186 : decode cJ24_divideOneWord 186 = .ok (.ldc2_w 52, 3) := dk_20 0 52 (dk_at dksJ24_divideOneWord_8 0 rfl rfl)
theorem dJ24_divideOneWord_189 : decode cJ24_divideOneWord 189 = .ok (.land, 1) := dk_127 (dk_at dksJ24_divideOneWord_8 3 rfl rfl)
theorem dJ24_divideOneWord_190 : decode cJ24_divideOneWord 190 = .ok (.lstore 7, 2) := dk_55 7 (dk_at dksJ24_divideOneWord_8 4 rfl rfl)
theorem dJ24_divideOneWord_192 : decode cJ24_divideOneWord 192 = .ok (.aload_n 0, 1) := dk_42 (dk_at dksJ24_divideOneWord_8 6 rfl rfl)
theorem dJ24_divideOneWord_193 : decode cJ24_divideOneWord 193 = .ok (.getfield 21, 3) := dk_180 0 21 (dk_at dksJ24_divideOneWord_8 7 rfl rfl)
theorem dJ24_divideOneWord_196 : decode cJ24_divideOneWord 196 = .ok (.istore 9, 2) := dk_54 9 (dk_at dksJ24_divideOneWord_8 10 rfl rfl)
theorem dJ24_divideOneWord_198 : decode cJ24_divideOneWord 198 = .ok (.iinc 9 (-1), 3) := dk_132 9 255 (dk_at dksJ24_divideOneWord_8 12 rfl rfl)
theorem dJ24_divideOneWord_201 : decode cJ24_divideOneWord 201 = .ok (.iload 9, 2) := dk_21 9 (dk_at dksJ24_divideOneWord_8 15 rfl rfl)
theorem dJ24_divideOneWord_203 : decode cJ24_divideOneWord 203 = .ok (.ifCond .le 112, 3) := dk_158 0 112 (dk_at dksJ24_divideOneWord_8 17 rfl rfl)
theorem dJ24_divideOneWord_206 : decode cJ24_divideOneWord 206 = .ok (.lload 7, 2) := dk_22 7 (dk_at dksJ24_divideOneWord_8 20 rfl rfl)
theorem dJ24_divideOneWord_208 : decode cJ24_divideOneWord 208 = .ok (.bipush 32, 2) := dk_16 32 (dk_at dksJ24_divideOneWord_8 22 rfl rfl)
theorem dJ24_divideOneWord_210 : decode cJ24_divideOneWord 210 = .ok (.lshl, 1) := dk_121 (dk_at dksJ24_divideOneWord_9 0 rfl rfl)
theorem dJ24_divideOneWord_211 : decode cJ24_divideOneWord 211 = .ok (.aload_n 0, 1) := dk_42 (dk_at dksJ24_divideOneWord_9 1 rfl rfl)
theorem dJ24_divideOneWord_212 : decode cJ24_divideOneWord 212 = .ok (.getfield 17, 3) := dk_180 0 17 (dk_at dksJ24_divideOneWord_9 2 rfl rfl)
theorem dJ24_divideOneWord_215 : decode cJ24_divideOneWord 215 = .ok (.aload_n 0, 1) := dk_42 (dk_at dksJ24_divideOneWord_9 5 rfl rfl)
theorem dJ24_divideOneWord_216 : decode cJ24_divideOneWord 216 = .ok (.getfield 11, 3) := dk_180 0 11 (dk_at dksJ24_divideOneWord_9 6 rfl rfl)
theorem dJ24_divideOneWord_219 : decode cJ24_divideOneWord 219 = .ok (.aload_n 0, 1) := dk_42 (dk_at dksJ24_divideOneWord_9 9 rfl rfl)
theorem dJ24_divideOneWord_220 : decode cJ24_divideOneWord 220 = .ok (.getfield 21, 3) := dk_180 0 21 (dk_at dksJ24_divideOneWord_9 10 rfl rfl)
theorem dJ24_divideOneWord_223 : decode cJ24_divideOneWord 223 = .ok (.iadd, 1) := dk_96 (dk_at dksJ24_divideOneWord_9 13 rfl rfl)
theorem dJ24_divideOneWord_224 : decode cJ24_divideOneWord 224 = .ok (.iload 9, 2) := dk_21 9 (dk_at dksJ24_divideOneWord_9 14 rfl rfl)
theorem dJ24_divideOneWord_226 : decode cJ24_divideOneWord 226 = .ok (.isub, 1) := dk_100 (dk_at dksJ24_divideOneWord_9 16 rfl rfl)
theorem dJ24_divideOneWord_227 : decode cJ24_divideOneWord 227 = .ok (.iaload, 1) := dk_46 (dk_at dksJ24_divideOneWord_9 17 rfl rfl)
theorem dJ24_divideOneWord_228 : decode cJ24_divideOneWord 228 = .ok (.i2l, 1) := dk_133 (dk_at dksJ24_divideOneWord_9 18 rfl rfl)
theorem dJ24_divideOneWord_229 : decode cJ24_divideOneWord 229 = .ok (.ldc2_w 52, 3) := dk_20 0 52 (dk_at dksJ24_divideOneWord_9 19 rfl rfl)
theorem dJ24_divideOneWord_232 : decode cJ24_divideOneWord 232 = .ok (.land, 1) := dk_127 (dk_at dksJ24_divideOneWord_9 22 rfl rfl)
theorem dJ24_divideOneWord_233 : decode cJ24_divideOneWord 233 = .ok (.lor, 1) := dk_129 (dk_at dksJ24_divideOneWord_9 23 rfl rfl)
theorem dJ24_divideOneWord_234 : decode cJ24_divideOneWord 234 = .ok (.lstore 10, 2) := dk_55 10 (dk_at dksJ24_divideOneWord_10 0 rfl rfl)
theorem dJ24_divideOneWord_236 : decode cJ24_divideOneWord 236 = .ok (.lload 10, 2) := dk_22 10 (dk_at dksJ24_divideOneWord_10 2 rfl rfl)
theorem dJ24_divideOneWord_238 : decode cJ24_divideOneWord 238 = .ok (.lconst 0, 1) := dk_9 (dk_at dksJ24_divideOneWord_10 4 rfl rfl)
theorem dJ24_divideOneWord_239 : decode cJ24_divideOneWord 239 = .ok (.lcmp, 1) := dk_148 (dk_at dksJ24_divideOneWord_10 5 rfl rfl)
theorem dJ24_divideOneWord_240 : decode cJ24_divideOneWord 240 = .ok (.ifCond .lt 24, 3) := dk_155 0 24 (dk_at dksJ24_divideOneWord_10 6 rfl rfl)
theorem dJ24_divideOneWord_243 : decode cJ24_divideOneWord 243 = .ok (.lload 10, 2) := dk_22 10 (dk_at dksJ24_divideOneWord_10 9 rfl rfl)
theorem dJ24_divideOneWord_245 : decode cJ24_divideOneWord 245 = .ok (.lload_n 3, 1) := dk_33 (dk_at dksJ24_divideOneWord_10 11 rfl rfl)
theorem dJ24_divideOneWord_246 : decode cJ24_divideOneWord 246 = .ok (.ldiv, 1) := dk_109 (dk_at dksJ24_divideOneWord_10 12 rfl rfl)
theorem dJ24_divideOneWord_247 : decode cJ24_divideOneWord 247 = .ok (.l2i, 1) := dk_136 (dk_at dksJ24_divideOneWord_10 13 rfl rfl)
theorem dJ24_divideOneWord_248 : decode cJ24_divideOneWord 248 = .ok (.istore 12, 2) := dk_54 12 (dk_at dksJ24_divideOneWord_10 14 rfl rfl)
theorem dJ24_divideOneWord_250 : decode cJ24_divideOneWord 250 = .ok (.lload 10, 2) := dk_22 10 (dk_at dksJ24_divideOneWord_10 16 rfl rfl)
theorem dJ24_divideOneWord_252 : decode cJ24_divideOneWord 252 = .ok (.iload 12, 2) := dk_21 12 (dk_at dksJ24_divideOneWord_10 18 rfl rfl)
theorem dJ24_divideOneWord_254 : decode cJ24_divideOneWord 254 = .ok (.i2l, 1) := dk_133 (dk_at dksJ24_divideOneWord_10 20 rfl rfl)
theorem dJ24_divideOneWord_255 : decode cJ24_divideOneWord 255 = .ok (.lload_n 3, 1) := dk_33 (dk_at dksJ24_divideOneWord_10 21 rfl rfl)
theorem dJ24_divideOneWord_256 : decode cJ24_divideOneWord 256 = .ok (.lmul, 1) := dk_105 (dk_at dksJ24_divideOneWord_10 22 rfl rfl)
theorem dJ24_divideOneWord_257 : decode cJ24_divideOneWord 257 = .ok (.lsub, 1) := dk_101 (dk_at dksJ24_divideOneWord_10 23 rfl rfl)
theorem dJ24_divideOneWord_258 : decode cJ24_divideOneWord 258 = .ok (.l2i, 1) := dk_136 (dk_at dksJ24_divideOneWord_11 0 rfl rfl)
theorem dJ24_divideOneWord_259 : decode cJ24_divideOneWord 259 = .ok (.istore 6, 2) := dk_54 6 (dk_at dksJ24_divideOneWord_11 1 rfl rfl)
theorem dJ24_divideOneWord_261 : decode cJ24_divideOneWord 261 = .ok (.goto 28, 3) := dk_167 0 28 (dk_at dksJ24_divideOneWord_11 3 rfl rfl)
theorem dJ24_divideOneWord_264 : decode cJ24_divideOneWord 264 = .ok (.lload 10, 2) := dk_22 10 (dk_at dksJ24_divideOneWord_11 6 rfl rfl)
theorem dJ24_divideOneWord_266 : decode cJ24_divideOneWord 266 = .ok (.iload_n 1, 1) := dk_27 (dk_at dksJ24_divideOneWord_11 8 rfl rfl)
theorem dJ24_divideOneWord_267 : decode cJ24_divideOneWord 267 = .ok (.invokestatic 155, 3) := dk_184 0 155 (dk_at dksJ24_divideOneWord_11 9 rfl rfl)
theorem dJ24_divideOneWord_270 : decode cJ24_divideOneWord 270 = .ok (.lstore 13, 2) := dk_55 13 (dk_at dksJ24_divideOneWord_11 12 rfl rfl)
theorem dJ24_divideOneWord_272 : decode cJ24_divideOneWord 272 = .ok (.lload 13, 2) := dk_22 13 (dk_at dksJ24_divideOneWord_11 14 rfl rfl)
theorem dJ24_divideOneWord_274 : decode cJ24_divideOneWord 274 = .ok (.ldc2_w 52, 3) := dk_20 0 52 (dk_at dksJ24_divideOneWord_11 16 rfl rfl)
theorem dJ24_divideOneWord_277 : decode cJ24_divideOneWord 277 = .ok (.land, 1) := dk_127 (dk_at dksJ24_divideOneWord_11 19 rfl rfl)
theorem dJ24_divideOneWord_278 : decode cJ24_divideOneWord 278 = .ok (.l2i, 1) := dk_136 (dk_at dksJ24_divideOneWord_11 20 rfl rfl)
theorem dJ24_divideOneWord_279 : decode cJ24_divideOneWord 279 = .ok (.istore 12, 2) := dk_54 12 (dk_at dksJ24_divideOneWord_11 21 rfl rfl)
theorem dJ24_divideOneWord_281 : decode cJ24_divideOneWord 281 = .ok (.lload 13, 2) := dk_22 13 (dk_at dksJ24_divideOneWord_12 0 rfl rfl)
theorem dJ24_divideOneWord_283 : decode cJ24_divideOneWord 283 = .ok (.bipush 32, 2) := dk_16 32 (dk_at dksJ24_divideOneWord_12 2 rfl rfl)
theorem dJ24_divideOneWord_285 : decode cJ24_divideOneWord 285 = .ok (.lushr, 1) := dk_125 (dk_at dksJ24_divideOneWord_12 4 rfl rfl)
theorem dJ24_divideOneWord_286 : decode cJ24_divideOneWord 286 = .ok (.l2i, 1) := dk_136 (dk_at dksJ24_divideOneWord_12 5 rfl rfl)
theorem dJ24_divideOneWord_287 : decode cJ24_divideOneWord 287 = .ok (.istore 6, 2) := dk_54 6 (dk_at dksJ24_divideOneWord_12 6 rfl rfl)
theorem dJ24_divideOneWord_289 : decode cJ24_divideOneWord 289 = .ok (.aload_n 2, 1) := dk_44 (dk_at dksJ24_divideOneWord_12 8 rfl rfl)
theorem dJ24_divideOneWord_290 : decode cJ24_divideOneWord 290 = .ok (.getfield 17, 3) := dk_180 0 17 (dk_at dksJ24_divideOneWord_12 9 rfl rfl)
theorem dJ24_divideOneWord_293 : decode cJ24_divideOneWord 293 = .ok (.aload_n 0, 1) := dk_42 (dk_at dksJ24_divideOneWord_12 12 rfl rfl)
theorem dJ24_divideOneWord_294 : decode cJ24_divideOneWord 294 = .ok (.getfield 21, 3) := dk_180 0 21 (dk_at dksJ24_divideOneWord_12 13 rfl rfl)
theorem dJ24_divideOneWord_297 : decode cJ24_divideOneWord 297 = .ok (.iload 9, 2) := dk_21 9 (dk_at dksJ24_divideOneWord_12 16 rfl rfl)
theorem dJ24_divideOneWord_299 : decode cJ24_divideOneWord 299 = .ok (.isub, 1) := dk_100 (dk_at dksJ24_divideOneWord_12 18 rfl rfl)
theorem dJ24_divideOneWord_300 : decode cJ24_divideOneWord 300 = .ok (.iload 12, 2) := dk_21 12 (dk_at dksJ24_divideOneWord_12 19 rfl rfl)
theorem dJ24_divideOneWord_302 : decode cJ24_divideOneWord 302 = .ok (.iastore, 1) := dk_79 (dk_at dksJ24_divideOneWord_12 21 rfl rfl)
theorem dJ24_divideOneWord_303 : decode cJ24_divideOneWord 303 = .ok (.iload 6, 2) := dk_21 6 (dk_at dksJ24_divideOneWord_12 22 rfl rfl)
theorem dJ24_divideOneWord_305 : decode cJ24_divideOneWord 305 = .ok (.i2l, 1) := dk_133 (dk_at dksJ24_divideOneWord_13 0 rfl rfl)
theorem dJ24_divideOneWord_306 : decode cJ24_divideOneWord 306 = .ok (.ldc2_w 52, 3) := dk_20 0 52 (dk_at dksJ24_divideOneWord_13 1 rfl rfl)
theorem dJ24_divideOneWord_309 : decode cJ24_divideOneWord 309 = .ok (.land, 1) := dk_127 (dk_at dksJ24_divideOneWord_13 4 rfl rfl)
theorem dJ24_divideOneWord_310 : decode cJ24_divideOneWord 310 = .ok (.lstore 7, 2) := dk_55 7 (dk_at dksJ24_divideOneWord_13 5 rfl rfl)
theorem dJ24_divideOneWord_312 : decode cJ24_divideOneWord 312 = .ok (.goto (-114), 3) := dk_167 255 142 (dk_at dksJ24_divideOneWord_13 7 rfl rfl)
theorem dJ24_divideOneWord_315 : decode cJ24_divideOneWord 315 = .ok (.aload_n 2, 1) := dk_44 (dk_at dksJ24_divideOneWord_13 10 rfl rfl)
theorem dJ24_divideOneWord_316 : decode cJ24_divideOneWord 316 = .ok (.invokevirtual 64, 3) := dk_182 0 64 (dk_at dksJ24_divideOneWord_13 11 rfl rfl)
theorem dJ24_divideOneWord_319 : decode cJ24_divideOneWord 319 = .ok (.iload 5, 2) := dk_21 5 (dk_at dksJ24_divideOneWord_13 14 rfl rfl)
theorem dJ24_divideOneWord_321 : decode cJ24_divideOneWord 321 = .ok (.ifCond .le 8, 3) := dk_158 0 8 (dk_at dksJ24_divideOneWord_13 16 rfl rfl)
theorem dJ24_divideOneWord_324 : decode cJ24_divideOneWord 324 = .ok (.iload 6, 2) := dk_21 6 (dk_at dksJ24_divideOneWord_13 19 rfl rfl)
theorem dJ24_divideOneWord_326 : decode cJ24_divideOneWord 326 = .ok (.iload_n 1, 1) := dk_27 (dk_at dksJ24_divideOneWord_13 21 rfl rfl)
theorem dJ24_divideOneWord_327 : decode cJ24_divideOneWord 327 = .ok (.irem, 1) := dk_112 (dk_at dksJ24_divideOneWord_13 22 rfl rfl)
theorem dJ24_divideOneWord_328 : decode cJ24_divideOneWord 328 = .ok (.ireturn, 1) := dk_172 (dk_at dksJ24_divideOneWord_13 23 rfl rfl)
theorem dJ24_divideOneWord_329 : decode cJ24_divideOneWord 329 = .ok (.iload 6, 2) := dk_21 6 (dk_at dksJ24_divideOneWord_14 0 rfl rfl)
theorem dJ24_divideOneWord_331 : decode cJ24_divideOneWord 331 = .ok (.ireturn, 1) := dk_172 (dk_at dksJ24_divideOneWord_14 2 rfl rfl)
theorem ydv_J24_normalize : yJ24_normalize.cls = "java/math/MutableBigInteger" ∧ yJ24_normalize.cls ≠ "java/lang/invoke/MethodHandle" ∧ yJ24_normalize.cls ≠ "java/lang/invoke/VarHandle" ∧ (parseMethodDescriptor yJ24_normalize.desc).map (fun d => d.parameters.length) = some 0 := by decide +kernel
theorem ydv_J24_primitiveLeftShift : yJ24_primitiveLeftShift.cls = "java/math/MutableBigInteger" ∧ yJ24_primitiveLeftShift.cls ≠ "java/lang/invoke/MethodHandle" ∧ yJ24_primitiveLeftShift.cls ≠ "java/lang/invoke/VarHandle" ∧ (parseMethodDescriptor yJ24_primitiveLeftShift.desc).map (fun d => d.parameters.length) = some 1 := by decide +kernel
/-! ### Knuth's division: one digit told -/
theorem rs_val {d g : Nat → Nat} (hd : ∀ i, d i < 4294967296) {n s X : Nat} (hn : 0 < n) (hs0 : 0 < s) (hs : s < 32) (h0 : d 0 = 0) (hX : seg d 0 n = X * 2 ^ s) (hg : ∀ i, g i < 4294967296) (h : seg g 0 n = seg (shl (fun j => d (0 + j)) (32 - s) n) 0 n) : seg g 0 (n - 1) = X := by
  have e1 : (fun j => d (0 + j)) = d := funext fun j => by rw [Nat.zero_add]
  rw [e1] at h
  have q := shl_val hd (s := 32 - s) (by omega) n n 0 (by omega) hn
  rw [h0, Nat.zero_div, Nat.zero_mul, Nat.zero_add, ← h, hX] at q
  obtain ⟨t, rfl⟩ : ∃ t, n = t + 1 := ⟨n - 1, by omega⟩
  rw [seg_r, Nat.mul_assoc, pow_split (by omega)] at q
  rw [Nat.add_sub_cancel]
  have := hg (0 + t)
  omega
theorem dow_app {d g : Nat → Nat} {j q r X : Nat} (h : seg d 0 (j + 1) * 4294967296 + d (j + 1) = (seg g 0 (j + 1) * 4294967296 + q) * X + r) (hq : q < 4294967296) : seg d 0 (j + 1 + 1) = seg (dup g (j + 1) (q % 4294967296)) 0 (j + 1 + 1) * X + r := by
  rw [seg_r d 0 (j + 1), seg_r _ 0 (j + 1), Nat.zero_add, dup_s, Nat.mod_eq_of_lt hq, seg_cg (d := dup g (j + 1) q) (e := g) (fun i h1 h2 => dup_n (by omega))]
  exact h
theorem dow_0 {d : Nat → Nat} {q r X : Nat} (h : d 0 = q * X + r) (hq : q < 4294967296) : seg d 0 (0 + 1) = seg (dup (fun _ => 0) 0 (q % 4294967296)) 0 (0 + 1) * X + r := by
  rw [seg_r, seg_r, seg_z, seg_z, Nat.zero_mul, Nat.zero_add, Nat.zero_add, dup_s, Nat.mod_eq_of_lt hq]
  rw [Nat.zero_add]
  exact h

set_option maxHeartbeats 1000000 in
theorem m_mShr (l : Launch) (z : State) (H0 : Heap) (a : Nat) (v n nv s0 X : Nat) (d : Nat → Nat) (hn0 : 0 < n) (hs0 : 0 < s0) (hs : s0 < 32) (hav : v ≠ a) (hon : n ≤ nv) (hnv9 : nv < 1000000) (hd0 : d 0 = 0) (hX : seg d 0 n = X * 2 ^ s0) (hd : ∀ i, d i < 4294967296) (hO : gO z true RJ24 TJ24 3 H0 a [.ref v, .int (nI n), .int 0]) (hA : gI z true .int H0 v nv (dI d)) : Met l yJ24_rightShift (ws_ yJ24_rightShift cJ24_rightShift 5 (none)) { frames := 2, cells := 0, slots := 0, locals := 41 } (gPc z H0 [.ref a, .int (nI s0)]) (gRv (fun q => q = a ∨ q = v) H0 (fun H1 => ∃ gg, (∀ i, gg i < 4294967296) ∧ seg gg 0 (n - 1) = X ∧ gO z true RJ24 TJ24 3 H1 a [.ref v, .int (nI (n - 1)), .int 0] ∧ gI z true .int H1 v nv (dI gg))) 0 0 (fun q => q = a ∨ q = v) := by
  refine g_start (by decide +kernel) (Nat.le_of_ble_eq_true rfl) ?_
  intro p e s m below meth c ls hx hb hr hlocks hml hown hname hts hwm hl
  have hown : s.vm.findClass "java/math/MutableBigInteger" = some m.cls := hown
  have hal : z.vm.Alike s.vm := hwm.alike
  have hCF : CallFix p m c cJ24_rightShift 5 s [.ref a, .int (nI s0)].toArray lw_all "java/math/MutableBigInteger" := ⟨hx, hb, hml, hown, hts⟩
  have hl : lv_has ls 5 [(0, .ref a), (1, .int (nI s0))] := hl
  have hS : va_S (fun q => q = a ∨ q = v) H0 H0 [] := va_S.rf
  have lt_a := hO.lt
  have lt_v := hA.lt
  refine lv_aload_n hx hb dJ24_rightShift_0 rfl (lv_at hl 0 rfl) ?_
  refine gw_get (C := RJ24) (T := TJ24) (N := 3) (v := .int (nI n)) hx hb hts in_J24 hown hal hO 1 (by decide) (hts _ q980) (fun _ h9 => h9) rfl dJ24_rightShift_1 ?_
  refine lv_if_ne (tgt := 8) hx hb dJ24_rightShift_4 (by decide) (fun c_4 => ?_) (fun c_4 => False.elim (by
    have c_4 := (ai_eq (a := n) (b := 0) (rfl) (rfl) (by omega) (by omega)).mp c_4
    omega))
  have c_4 := mt (ai_eq (a := n) (b := 0) (rfl) (rfl) (by omega) (by omega)).mpr c_4
  refine lv_iload_n hx hb dJ24_rightShift_8 rfl (lv_at hl 1 rfl) ?_
  refine lv_iconst (v := 5) hx hb dJ24_rightShift_9 (by decide) ?_
  refine lv_iushr hx hb dJ24_rightShift_10 rfl ?_
  refine g_topi (v := 0) ((ai_ushr (a := s0) (k := 5) rfl rfl (by omega) (by decide)).trans (by rw [show s0 / 2 ^ 5 = 0 by omega]; rfl)) ?_
  refine lv_istore_n hx hb dJ24_rightShift_11 rfl hl (by decide) rfl (fun ls hl => ?_)
  have hl : lv_has ls 5 [(2, .int 0), (0, .ref a), (1, .int (nI s0))] := hl
  refine lv_iload_n hx hb dJ24_rightShift_12 rfl (lv_at hl 2 rfl) ?_
  refine lv_bipush (v := 31) hx hb dJ24_rightShift_13 (by decide) ?_
  refine lv_iand hx hb dJ24_rightShift_15 ?_
  refine g_topi (v := (nI s0)) ((ai_and31 (a := s0) rfl (by omega)).trans (congrArg nI (by omega))) ?_
  refine lv_istore_n hx hb dJ24_rightShift_16 rfl hl (by decide) rfl (fun ls hl => ?_)
  have hl : lv_has ls 5 [(3, .int (nI s0)), (2, .int 0), (0, .ref a), (1, .int (nI s0))] := hl
  refine lv_aload_n hx hb dJ24_rightShift_17 rfl (lv_at hl 2 rfl) ?_
  refine lv_dup hx hb dJ24_rightShift_18 rfl ?_
  refine gw_get (C := RJ24) (T := TJ24) (N := 3) (v := .int (nI n)) hx hb hts in_J24 hown hal hO 1 (by decide) (hts _ q980) (fun _ h9 => h9) rfl dJ24_rightShift_19 ?_
  refine lv_iload_n hx hb dJ24_rightShift_22 rfl (lv_at hl 1 rfl) ?_
  refine lv_isub hx hb dJ24_rightShift_23 ?_
  refine g_topi (v := (nI n)) (ai_sub (a := n) (b := 0) rfl rfl (Nat.zero_le _)) ?_
  refine gw_put (C := RJ24) (T := TJ24) (N := 3) (ty := .int) (v := .int (nI n)) hx hb hts in_J24 tyJ24 tyJ24_ok nmJ24 (hts _ q974) hown hal hO hS (by have hsz := hS.1; (try dsimp only [gfr]) <;> omega) 1 (by decide) (hts _ q980) (fun _ h9 => h9) rfl (by decide +kernel) (rfl) (rfl) (Nat.le_of_ble_eq_true rfl) dJ24_rightShift_24 (fun H_1 locs h_new hch hS => ?_)
  have hA := hA.ch hch (by omega)
  have sz_H_1 := hch.1
  clear hch
  have hO : gO z true RJ24 TJ24 3 H_1 a [.ref v, .int (nI n), .int 0] := h_new
  refine lv_iload_n hx hb dJ24_rightShift_27 rfl (lv_at hl 0 rfl) ?_
  refine lv_if_ne (tgt := 32) hx hb dJ24_rightShift_28 (by decide) (fun c_28 => ?_) (fun c_28 => False.elim (by
    have c_28 := (ai_eq (a := s0) (b := 0) (rfl) (rfl) (by omega) (by omega)).mp c_28
    omega))
  have c_28 := mt (ai_eq (a := s0) (b := 0) (rfl) (rfl) (by omega) (by omega)).mpr c_28
  refine lv_aload_n hx hb dJ24_rightShift_32 rfl (lv_at hl 2 rfl) ?_
  refine gw_get (C := RJ24) (T := TJ24) (N := 3) (v := .ref v) hx hb hts in_J24 hown hal hO 0 (by decide) (hts _ q979) (fun _ h9 => h9) rfl dJ24_rightShift_33 ?_
  refine lv_aload_n hx hb dJ24_rightShift_36 rfl (lv_at hl 2 rfl) ?_
  refine gw_get (C := RJ24) (T := TJ24) (N := 3) (v := .int 0) hx hb hts in_J24 hown hal hO 2 (by decide) (hts _ q981) (fun _ h9 => h9) rfl dJ24_rightShift_37 ?_
  refine gw_iald hx hb hal hA 0 (rfl) (by omega) (by omega) dJ24_rightShift_40 ?_
  refine g_topi (v := (nI (d 0))) rfl ?_
  refine gcS1_iP hCF hwm hl.1 (m_blInt l z H_1  (d 0) (hd _) ) (lw_S q1057 q859 q83 q860) yd_J22_bitLengthForInt ⟨Nat.le_of_ble_eq_true rfl, Nat.le_of_ble_eq_true rfl⟩ ⟨Nat.le_of_ble_eq_true rfl, Nat.le_of_ble_eq_true rfl⟩ (Nat.le_of_ble_eq_true rfl) dJ24_rightShift_41 (fun rb hp => ?_)
  obtain ⟨b0, hb01, hb02, hb03⟩ := hp
  subst hb02
  rw [hd0] at hb03
  have hb04 := isBl_0 hb03
  refine lv_istore hx hb dJ24_rightShift_44 hl (by decide) rfl (fun ls hl => ?_)
  have hl : lv_has ls 5 [(4, .int (nI b0)), (3, .int (nI s0)), (2, .int 0), (0, .ref a), (1, .int (nI s0))] := hl
  refine lv_iload_n hx hb dJ24_rightShift_46 rfl (lv_at hl 1 rfl) ?_
  refine lv_iload hx hb dJ24_rightShift_47 (lv_at hl 0 rfl) ?_
  refine lv_icmp_lt (tgt := 73) hx hb dJ24_rightShift_49 (by decide) (fun c_49 => False.elim (by
    have c_49 := (ai_lt (a := s0) (b := b0) (rfl) (rfl) (by omega) (by omega)).mp c_49
    omega)) (fun c_49 => ?_)
  have c_49 := mt (ai_lt (a := s0) (b := b0) (rfl) (rfl) (by omega) (by omega)).mpr c_49
  refine lv_aload_n hx hb dJ24_rightShift_52 rfl (lv_at hl 3 rfl) ?_
  refine lv_bipush (v := 32) hx hb dJ24_rightShift_53 (by decide) ?_
  refine lv_iload_n hx hb dJ24_rightShift_55 rfl (lv_at hl 1 rfl) ?_
  refine lv_isub hx hb dJ24_rightShift_56 ?_
  refine g_topi (v := nI (32 - s0)) (ai_sub (a := 32) (b := s0) (rfl) (rfl) (by omega)) ?_
  have hsz := hS.1
  refine gcV1_v hCF hwm hl.1 (m_mShl l z H_1 a v n nv (32 - s0) d hn0 (by omega) (by omega) hav hon hnv9 hd hO hA ) (lw_V q1058 q1060 qs4 q85 q1061) ydv_J24_primitiveLeftShift (hO.recv hal) hS (fun q h => by have hsz := hS.1; (try dsimp only [gfr] at h ⊢) <;> omega) ⟨Nat.le_of_ble_eq_true rfl, Nat.le_of_ble_eq_true rfl⟩ ⟨Nat.le_of_ble_eq_true rfl, Nat.le_of_ble_eq_true rfl⟩ (Nat.le_of_ble_eq_true rfl) dJ24_rightShift_57 (fun H_2 locs hp hex hS => ?_)
  have sz_H_2 : H_1.size ≤ H_2.size := hex.1
  have hO := hO.ex hex (by intro h; (try dsimp only [gfr] at h) <;> omega)
  clear hA
  obtain ⟨g5, hg5, hg6, hA⟩ := hp
  have hR := rs_val hd hn0 hs0 hs hd0 hX hg5 hg6
  have lt_v := hA.lt
  refine lv_aload_n hx hb dJ24_rightShift_60 rfl (lv_at hl 3 rfl) ?_
  refine lv_dup hx hb dJ24_rightShift_61 rfl ?_
  refine gw_get (C := RJ24) (T := TJ24) (N := 3) (v := .int (nI n)) hx hb hts in_J24 hown hal hO 1 (by decide) (hts _ q980) (fun _ h9 => h9) rfl dJ24_rightShift_62 ?_
  refine lv_iconst (v := 1) hx hb dJ24_rightShift_65 (by decide) ?_
  refine lv_isub hx hb dJ24_rightShift_66 ?_
  refine g_topi (v := nI (n - 1)) (ai_sub (a := n) (b := 1) (rfl) (rfl) (by omega)) ?_
  refine gw_put (C := RJ24) (T := TJ24) (N := 3) (ty := .int) (v := .int (nI (n - 1))) hx hb hts in_J24 tyJ24 tyJ24_ok nmJ24 (hts _ q974) hown hal hO hS (by have hsz := hS.1; (try dsimp only [gfr]) <;> omega) 1 (by decide) (hts _ q980) (fun _ h9 => h9) rfl (by decide +kernel) (rfl) (rfl) (Nat.le_of_ble_eq_true rfl) dJ24_rightShift_67 (fun H_4 locs h_new hch hS => ?_)
  have hA := hA.ch hch (by omega)
  have sz_H_4 := hch.1
  clear hch
  have hO : gO z true RJ24 TJ24 3 H_4 a [.ref v, .int (nI (n - 1)), .int 0] := h_new
  refine lv_goto (tgt := 78) hx hb dJ24_rightShift_70 (by decide) ?_
  refine g_vret hx hb hr hlocks hS (Nat.le_of_ble_eq_true rfl) (Nat.le_of_ble_eq_true rfl) ?_ dJ24_rightShift_78
  exact ⟨g5, hg5, hR, hO, hA⟩
set_option maxHeartbeats 1000000 in
theorem m_divOne (l : Launch) (z : State) (H0 : Heap) (a : Nat) (b : Nat) (va vq n na X : Nat) (wa xa : Bool) (d : Nat → Nat) (hn0 : 0 < n) (hna : n ≤ na) (hna9 : na < 100000) (hX0 : 0 < X) (hX9 : X < 2147483648) (hab : a ≠ b) (haq : vq ≠ b) (haq2 : va ≠ b) (haq3 : vq ≠ va) (haq4 : vq ≠ a) (hd0 : d 0 ≠ 0) (hd : ∀ i, d i < 4294967296) (hO : gO z wa RJ24 TJ24 3 H0 a [.ref va, .int (nI n), .int 0]) (hA : gI z xa .int H0 va na (dI d)) (hB : gO z true RJ24 TJ24 3 H0 b [.ref vq, .int 0, .int 0]) (hQ : gI z true .int H0 vq 1 (dI (fun _ => 0))) : Met l yJ24_divideOneWord (ws_ yJ24_divideOneWord cJ24_divideOneWord 15 (some .int)) { frames := 1, cells := 1, slots := n, locals := 23 } (gPc z H0 [.ref a, .int (nI X), .ref b]) (gRi (fun q => q = b ∨ q = vq ∨ H0.size ≤ q) H0 (fun r H1 => mQ z H0.size H1 b vq (n + 1) (seg d 0 n / X))) 1 n (fun q => q = b ∨ q = vq ∨ H0.size ≤ q) := by
  refine g_start (by decide +kernel) (Nat.le_of_ble_eq_true rfl) ?_
  intro p e s m below meth c ls hx hb hr hlocks hml hown hname hts hwm hl
  have hown : s.vm.findClass "java/math/MutableBigInteger" = some m.cls := hown
  have hal : z.vm.Alike s.vm := hwm.alike
  have hCF : CallFix p m c cJ24_divideOneWord 15 s [.ref a, .int (nI X), .ref b].toArray lw_all "java/math/MutableBigInteger" := ⟨hx, hb, hml, hown, hts⟩
  have hl : lv_has ls 15 [(0, .ref a), (1, .int (nI X)), (2, .ref b)] := hl
  have hS : va_S (fun q => q = b ∨ q = vq ∨ H0.size ≤ q) H0 H0 [] := va_S.rf
  have hd00 := hd 0
  have q00 := Nat.div_add_mod (d 0) X
  have hr00 : d 0 - d 0 / X * X < X := by
    have := Nat.mod_lt (d 0) hX0
    rw [Nat.mul_comm] at q00
    omega
  have hq01 : d 0 / X * X ≤ d 0 := Nat.div_mul_le_self _ _
  have hq00 : d 0 / X < 4294967296 := Nat.lt_of_le_of_lt (Nat.div_le_self _ _) (hd 0)
  have lt_a := hO.lt
  have lt_va := hA.lt
  have lt_b := hB.lt
  have lt_vq := hQ.lt
  refine lv_iload_n hx hb dJ24_divideOneWord_0 rfl (lv_at hl 1 rfl) ?_
  refine lv_i2l hx hb dJ24_divideOneWord_1 rfl ?_
  refine lv_ldc2 (v := 4294967295) hx hb hown (hts _ q1035) dJ24_divideOneWord_2 ?_
  refine lv_land hx hb dJ24_divideOneWord_5 ?_
  refine g_topl (v := lN X) (mk32 (a := X) (rfl) (by omega)) ?_
  refine lv_lstore_n hx hb dJ24_divideOneWord_6 rfl hl (by decide) rfl (fun ls hl => ?_)
  have hl : lv_has ls 15 [(3, .long (lN X)), (0, .ref a), (1, .int (nI X)), (2, .ref b)] := hl
  refine lv_aload_n hx hb dJ24_divideOneWord_7 rfl (lv_at hl 1 rfl) ?_
  refine gw_get (C := RJ24) (T := TJ24) (N := 3) (v := .int (nI n)) hx hb hts in_J24 hown hal hO 1 (by decide) (hts _ q980) (fun _ h9 => h9) rfl dJ24_divideOneWord_8 ?_
  refine lv_iconst (v := 1) hx hb dJ24_divideOneWord_11 (by decide) ?_
  refine lv_icmp_ne (tgt := 79) hx hb dJ24_divideOneWord_12 (by decide) (fun c_12 => ?_) (fun c_12 => ?_)
  · skip
    have c_12 := mt (ai_eq (a := n) (b := 1) (rfl) (rfl) (by omega) (by omega)).mpr c_12
    refine lv_aload_n hx hb dJ24_divideOneWord_79 rfl (lv_at hl 3 rfl) ?_
    refine gw_get (C := RJ24) (T := TJ24) (N := 3) (v := .ref vq) hx hb hts in_J24 hown hal hB 0 (by decide) (hts _ q979) (fun _ h9 => h9) rfl dJ24_divideOneWord_80 ?_
    refine gw_len hx hb hal hQ dJ24_divideOneWord_83 ?_
    refine lv_aload_n hx hb dJ24_divideOneWord_84 rfl (lv_at hl 1 rfl) ?_
    refine gw_get (C := RJ24) (T := TJ24) (N := 3) (v := .int (nI n)) hx hb hts in_J24 hown hal hO 1 (by decide) (hts _ q980) (fun _ h9 => h9) rfl dJ24_divideOneWord_85 ?_
    refine lv_icmp_ge (tgt := 101) hx hb dJ24_divideOneWord_88 (by decide) (fun c_88 => False.elim (by
      have c_88 := (ai_le (a := n) (b := 1) (rfl) (rfl) (by omega) (by omega)).mp c_88
      omega)) (fun c_88 => ?_)
    have c_88 := mt (ai_le (a := n) (b := 1) (rfl) (rfl) (by omega) (by omega)).mpr c_88
    refine lv_aload_n hx hb dJ24_divideOneWord_91 rfl (lv_at hl 3 rfl) ?_
    refine lv_aload_n hx hb dJ24_divideOneWord_92 rfl (lv_at hl 1 rfl) ?_
    refine gw_get (C := RJ24) (T := TJ24) (N := 3) (v := .int (nI n)) hx hb hts in_J24 hown hal hO 1 (by decide) (hts _ q980) (fun _ h9 => h9) rfl dJ24_divideOneWord_93 ?_
    have hsz := hS.1
    have lt_a := hO.lt
    have lt_va := hA.lt
    have lt_b := hB.lt
    have lt_vq := hQ.lt
    refine gw_newa (atype := .int) (ty := .int) (N' := n) hx hb (hts _ q990) rfl hal hS (rfl) (by omega) (by simp [componentBytes]; omega) (by first | omega | (dsimp only; omega)) (by first | omega | (dsimp only; omega)) dJ24_divideOneWord_96 (fun qa H_1 eqa zqa hgx h_qa hS => ?_)
    have hO := hO.x hgx
    have hA := hA.x hgx
    have hB := hB.x hgx
    have hQ := hQ.x hgx
    have h_qa : gI z true .int H_1 qa n (fun _ => 0) := h_qa
    have h_qa : gI z true .int H_1 qa n (dI (fun _ => 0)) := h_qa
    refine gw_put (C := RJ24) (T := TJ24) (N := 3) (ty := (.array .int)) (v := .ref qa) hx hb hts in_J24 tyJ24 tyJ24_ok nmJ24 (hts _ q974) hown hal hB hS (by have hsz := hS.1; (try dsimp only [gfr]) <;> omega) 0 (by decide) (hts _ q979) (fun _ h9 => h9) rfl (by decide +kernel) (rfl) (rfl) (Nat.le_of_ble_eq_true rfl) dJ24_divideOneWord_98 (fun H_2 locs h_new hch hS => ?_)
    have hO := hO.ch hch (by omega)
    have hA := hA.ch hch (by omega)
    have hQ := hQ.ch hch (by omega)
    have h_qa := h_qa.ch hch (by omega)
    have sz_H_2 := hch.1
    clear hch
    have hB : gO z true RJ24 TJ24 3 H_2 b [.ref qa, .int 0, .int 0] := h_new
    refine lv_aload_n hx hb dJ24_divideOneWord_101 rfl (lv_at hl 3 rfl) ?_
    refine lv_iconst (v := 0) hx hb dJ24_divideOneWord_102 (by decide) ?_
    refine gw_put (C := RJ24) (T := TJ24) (N := 3) (ty := .int) (v := .int 0) hx hb hts in_J24 tyJ24 tyJ24_ok nmJ24 (hts _ q974) hown hal hB hS (by have hsz := hS.1; (try dsimp only [gfr]) <;> omega) 2 (by decide) (hts _ q981) (fun _ h9 => h9) rfl (by decide +kernel) (rfl) (rfl) (Nat.le_of_ble_eq_true rfl) dJ24_divideOneWord_103 (fun H_3 locs h_new hch hS => ?_)
    have hO := hO.ch hch (by omega)
    have hA := hA.ch hch (by omega)
    have hQ := hQ.ch hch (by omega)
    have h_qa := h_qa.ch hch (by omega)
    have sz_H_3 := hch.1
    clear hch
    have hB : gO z true RJ24 TJ24 3 H_3 b [.ref qa, .int 0, .int 0] := h_new
    refine lv_aload_n hx hb dJ24_divideOneWord_106 rfl (lv_at hl 3 rfl) ?_
    refine lv_aload_n hx hb dJ24_divideOneWord_107 rfl (lv_at hl 1 rfl) ?_
    refine gw_get (C := RJ24) (T := TJ24) (N := 3) (v := .int (nI n)) hx hb hts in_J24 hown hal hO 1 (by decide) (hts _ q980) (fun _ h9 => h9) rfl dJ24_divideOneWord_108 ?_
    refine gw_put (C := RJ24) (T := TJ24) (N := 3) (ty := .int) (v := .int (nI n)) hx hb hts in_J24 tyJ24 tyJ24_ok nmJ24 (hts _ q974) hown hal hB hS (by have hsz := hS.1; (try dsimp only [gfr]) <;> omega) 1 (by decide) (hts _ q980) (fun _ h9 => h9) rfl (by decide +kernel) (rfl) (rfl) (Nat.le_of_ble_eq_true rfl) dJ24_divideOneWord_111 (fun H_4 locs h_new hch hS => ?_)
    have hO := hO.ch hch (by omega)
    have hA := hA.ch hch (by omega)
    have hQ := hQ.ch hch (by omega)
    have h_qa := h_qa.ch hch (by omega)
    have sz_H_4 := hch.1
    clear hch
    have hB : gO z true RJ24 TJ24 3 H_4 b [.ref qa, .int (nI n), .int 0] := h_new
    refine lv_iload_n hx hb dJ24_divideOneWord_114 rfl (lv_at hl 2 rfl) ?_
    refine gcS1_iP hCF hwm hl.1 (m_nlz l z H_4  X (by omega) ) (lw_S q1036 q862 q78 q863) yd_J17_numberOfLeadingZeros ⟨Nat.le_of_ble_eq_true rfl, Nat.le_of_ble_eq_true rfl⟩ ⟨by first | omega | (dsimp only; omega), by first | omega | (dsimp only; omega)⟩ (Nat.le_of_ble_eq_true rfl) dJ24_divideOneWord_115 (fun rn hp => ?_)
    obtain ⟨b0, hb01, hb02, hb03⟩ := hp
    subst hb02
    have hb04 : 1 ≤ b0 := by
      rcases Nat.eq_zero_or_pos b0 with e | e
      · have q := hb03.1
        rw [e] at q
        omega
      · exact e
    have hb05 : b0 ≤ 31 := by
      refine Decidable.byContradiction fun e => ?_
      have e2 : b0 = 32 := by omega
      rcases hb03.2 with q | q
      · omega
      · rw [e2] at q
        omega
    refine lv_istore hx hb dJ24_divideOneWord_118 hl (by decide) rfl (fun ls hl => ?_)
    have hl : lv_has ls 15 [(5, .int (nI (32 - b0))), (3, .long (lN X)), (0, .ref a), (1, .int (nI X)), (2, .ref b)] := hl
    refine lv_aload_n hx hb dJ24_divideOneWord_120 rfl (lv_at hl 2 rfl) ?_
    refine gw_get (C := RJ24) (T := TJ24) (N := 3) (v := .ref va) hx hb hts in_J24 hown hal hO 0 (by decide) (hts _ q979) (fun _ h9 => h9) rfl dJ24_divideOneWord_121 ?_
    refine lv_aload_n hx hb dJ24_divideOneWord_124 rfl (lv_at hl 2 rfl) ?_
    refine gw_get (C := RJ24) (T := TJ24) (N := 3) (v := .int 0) hx hb hts in_J24 hown hal hO 2 (by decide) (hts _ q981) (fun _ h9 => h9) rfl dJ24_divideOneWord_125 ?_
    refine gw_iald hx hb hal hA 0 (rfl) (by omega) (by omega) dJ24_divideOneWord_128 ?_
    refine g_topi (v := (nI (d 0))) rfl ?_
    refine lv_istore hx hb dJ24_divideOneWord_129 hl (by decide) rfl (fun ls hl => ?_)
    have hl : lv_has ls 15 [(6, .int (nI (d 0))), (5, .int (nI (32 - b0))), (3, .long (lN X)), (0, .ref a), (1, .int (nI X)), (2, .ref b)] := hl
    refine lv_iload hx hb dJ24_divideOneWord_131 (lv_at hl 0 rfl) ?_
    refine lv_i2l hx hb dJ24_divideOneWord_133 rfl ?_
    refine lv_ldc2 (v := 4294967295) hx hb hown (hts _ q1035) dJ24_divideOneWord_134 ?_
    refine lv_land hx hb dJ24_divideOneWord_137 ?_
    refine g_topl (v := lN (d 0)) (mk32 (a := (d 0)) (rfl) (hd _)) ?_
    refine lv_lstore hx hb dJ24_divideOneWord_138 hl (by decide) rfl (fun ls hl => ?_)
    have hl : lv_has ls 15 [(7, .long (lN (d 0))), (6, .int (nI (d 0))), (5, .int (nI (32 - b0))), (3, .long (lN X)), (0, .ref a), (1, .int (nI X)), (2, .ref b)] := hl
    refine lv_lload hx hb dJ24_divideOneWord_140 (lv_at hl 0 rfl) ?_
    refine lv_lload_n hx hb dJ24_divideOneWord_142 rfl (lv_at hl 3 rfl) ?_
    refine W.lcmp hx hb dJ24_divideOneWord_143 ?_
    refine lv_if_ge (tgt := 157) hx hb dJ24_divideOneWord_144 (by decide) (fun c_144 => ?_) (fun c_144 => ?_)
    · skip
      have c_144 := (ai_cge (a := ((d 0) : Nat)) (b := (X : Nat)) (lN_lI _) (lN_lI _) (by omega) (by omega) (by omega) (by omega)).mp c_144
      refine lv_aload_n hx hb dJ24_divideOneWord_157 rfl (lv_at hl 6 rfl) ?_
      refine gw_get (C := RJ24) (T := TJ24) (N := 3) (v := .ref qa) hx hb hts in_J24 hown hal hB 0 (by decide) (hts _ q979) (fun _ h9 => h9) rfl dJ24_divideOneWord_158 ?_
      refine lv_iconst (v := 0) hx hb dJ24_divideOneWord_161 (by decide) ?_
      refine lv_lload hx hb dJ24_divideOneWord_162 (lv_at hl 0 rfl) ?_
      refine lv_lload_n hx hb dJ24_divideOneWord_164 rfl (lv_at hl 3 rfl) ?_
      refine lv_ldiv hx hb dJ24_divideOneWord_165 (lN_ne0 hX0 (by omega)) ?_
      refine g_topl (v := (lN (d 0 / X))) (lN_div (by omega) (by omega) (by omega)) ?_
      refine lv_l2i hx hb dJ24_divideOneWord_166 rfl ?_
      refine g_topi (v := nI (d 0 / X)) (ai_l2i (rfl)) ?_
      refine gw_iast (f := (dI (fun _ => 0))) hx hb hal h_qa hS (by have hsz := hS.1; (try dsimp only [gfr]) <;> omega) 0 (rfl) (by omega) (by omega) dJ24_divideOneWord_167 (fun H_5 locs h_new hch hS => ?_)
      have hO := hO.ch hch (by omega)
      have hA := hA.ch hch (by omega)
      have hB := hB.ch hch (by omega)
      have hQ := hQ.ch hch (by omega)
      have sz_H_5 := hch.1
      clear hch
      have h_qa : gI z true .int H_5 qa n (upd (dI (fun _ => 0)) 0 (nI (d 0 / X))) := h_new
      replace h_qa : gI z true .int H_5 qa n (dI (dup (fun _ => 0) 0 ((d 0 / X) % 4294967296))) := by
        have q := h_qa
        rw [dI_put] at q
        exact q
      have bd_6 : ∀ ix, (dup (fun _ => 0) 0 ((d 0 / X) % 4294967296)) ix < 4294967296 := dup_lt (fun _ => by decide) (Nat.mod_lt _ (by decide))
      refine lv_lload hx hb dJ24_divideOneWord_168 (lv_at hl 0 rfl) ?_
      refine lv_aload_n hx hb dJ24_divideOneWord_170 rfl (lv_at hl 6 rfl) ?_
      refine gw_get (C := RJ24) (T := TJ24) (N := 3) (v := .ref qa) hx hb hts in_J24 hown hal hB 0 (by decide) (hts _ q979) (fun _ h9 => h9) rfl dJ24_divideOneWord_171 ?_
      refine lv_iconst (v := 0) hx hb dJ24_divideOneWord_174 (by decide) ?_
      refine gw_iald hx hb hal h_qa 0 (rfl) (by omega) (by omega) dJ24_divideOneWord_175 ?_
      refine g_topi (v := (nI ((dup (fun _ => 0) 0 ((d 0 / X) % 4294967296)) 0))) rfl ?_
      refine g_topi (v := (nI (d 0 / X))) ?_ ?_
      · skip
        exact congrArg nI (by rw [dup_s, Nat.mod_eq_of_lt hq00])
      refine lv_i2l hx hb dJ24_divideOneWord_176 rfl ?_
      refine lv_lload_n hx hb dJ24_divideOneWord_177 rfl (lv_at hl 3 rfl) ?_
      refine lv_lmul hx hb dJ24_divideOneWord_178 ?_
      refine lv_lsub hx hb dJ24_divideOneWord_179 ?_
      refine lv_l2i hx hb dJ24_divideOneWord_180 rfl ?_
      refine g_topi (v := (nI (d 0 - d 0 / X * X))) (l2i_sx hq01 hq00) ?_
      refine lv_istore hx hb dJ24_divideOneWord_181 hl (by decide) rfl (fun ls hl => ?_)
      have hl : lv_has ls 15 [(6, .int (nI (d 0 - d 0 / X * X))), (7, .long (lN (d 0))), (5, .int (nI (32 - b0))), (3, .long (lN X)), (0, .ref a), (1, .int (nI X)), (2, .ref b)] := hl
      refine lv_iload hx hb dJ24_divideOneWord_183 (lv_at hl 0 rfl) ?_
      refine lv_i2l hx hb dJ24_divideOneWord_185 rfl ?_
      refine lv_ldc2 (v := 4294967295) hx hb hown (hts _ q1035) dJ24_divideOneWord_186 ?_
      refine lv_land hx hb dJ24_divideOneWord_189 ?_
      refine g_topl (v := lN (d 0 - d 0 / X * X)) (mk32 (a := (d 0 - d 0 / X * X)) (rfl) (by omega)) ?_
      refine lv_lstore hx hb dJ24_divideOneWord_190 hl (by decide) rfl (fun ls hl => ?_)
      have hl : lv_has ls 15 [(7, .long (lN (d 0 - d 0 / X * X))), (6, .int (nI (d 0 - d 0 / X * X))), (5, .int (nI (32 - b0))), (3, .long (lN X)), (0, .ref a), (1, .int (nI X)), (2, .ref b)] := hl
      refine lv_aload_n hx hb dJ24_divideOneWord_192 rfl (lv_at hl 4 rfl) ?_
      refine gw_get (C := RJ24) (T := TJ24) (N := 3) (v := .int (nI n)) hx hb hts in_J24 hown hal hO 1 (by decide) (hts _ q980) (fun _ h9 => h9) rfl dJ24_divideOneWord_193 ?_
      refine lv_istore hx hb dJ24_divideOneWord_196 hl (by decide) rfl (fun ls hl => ?_)
      have hl : lv_has ls 15 [(9, .int (nI n)), (7, .long (lN (d 0 - d 0 / X * X))), (6, .int (nI (d 0 - d 0 / X * X))), (5, .int (nI (32 - b0))), (3, .long (lN X)), (0, .ref a), (1, .int (nI X)), (2, .ref b)] := hl
      replace hl : lv_has ls 15 [(9, .int (nI (n - 0))), (7, .long (lN (d 0 - d 0 / X * X))), (6, .int (nI (d 0 - d 0 / X * X))), (5, .int (nI (32 - b0))), (3, .long (lN X)), (0, .ref a), (1, .int (nI X)), (2, .ref b)] := by
        exact hl
      have loopA : ∀ (n_ : Nat) (j R : Nat) (g : Nat → Nat), (j < n) → (R < X) → (∀ i, g i < 4294967296) → (seg d 0 (j + 1) = seg g 0 (j + 1) * X + R) → (n - j) < n_ → ∀ (H_7 : Heap) (locs : List Loc), va_S (fun q => q = b ∨ q = vq ∨ H0.size ≤ q) H0 H_7 locs → gO z wa RJ24 TJ24 3 H_7 a [.ref va, .int (nI n), .int 0] → gI z xa .int H_7 va na (dI d) → gO z true RJ24 TJ24 3 H_7 b [.ref qa, .int (nI n), .int 0] → gI z true .int H_7 vq 1 (dI (fun _ => 0)) → gI z true .int H_7 qa n (dI g) → ∀ (ls : Array Slot), lv_has ls 15 [(9, .int (nI (n - j))), (7, .long (lN R)), (6, .int (nI R)), (5, .int (nI (32 - b0))), (3, .long (lN X)), (0, .ref a), (1, .int (nI X)), (2, .ref b)] → W p l e { frames := 1, cells := 1, slots := n, locals := 23 } s m [.ref a, .int (nI X), .ref b].toArray below meth c H_7 locs 1 (0 + n) (MQ below (gRi (fun q => q = b ∨ q = vq ∨ H0.size ≤ q) H0 (fun r H1 => mQ z H0.size H1 b vq (n + 1) (seg d 0 n / X))) [.ref a, .int (nI X), .ref b].toArray s 1 n (fun q => q = b ∨ q = vq ∨ H0.size ≤ q)) (F0 m 198 ls []) := by
        intro n_
        induction n_ with
        | zero => intro j R g hj hR hg hv hm_; exact absurd hm_ (Nat.not_lt_zero _)
        | succ n_ ih_loopA =>
          intro j R g hj hR hg hv hm_ H_7 locs hS hO hA hB hQ h_qa ls hl
          refine lv_iinc (k := 0) (v := (nI ((n - j) - 1))) hx hb dJ24_divideOneWord_198 hl rfl (ai_sbn (a := (n - j)) (b := 1) (rfl) (show Int32.ofInt (-1) = -nI 1 by decide) (by omega)) (by decide) rfl (fun ls hl => ?_)
          have hl : lv_has ls 15 [(9, .int (nI ((n - j) - 1))), (7, .long (lN R)), (6, .int (nI R)), (5, .int (nI (32 - b0))), (3, .long (lN X)), (0, .ref a), (1, .int (nI X)), (2, .ref b)] := hl
          refine lv_iload hx hb dJ24_divideOneWord_201 (lv_at hl 0 rfl) ?_
          refine lv_if_le (tgt := 315) hx hb dJ24_divideOneWord_203 (by decide) (fun c_203 => ?_) (fun c_203 => ?_)
          · skip
            have c_203 := (ai_le (a := ((n - j) - 1)) (b := 0) (rfl) (rfl) (by omega) (by omega)).mp c_203
            refine lv_aload_n hx hb dJ24_divideOneWord_315 rfl (lv_at hl 7 rfl) ?_
            have hsz := hS.1
            refine gcV0_v hCF hwm hl.1 (m_norm l z H_7 b qa n 0 n true g (by omega) (by omega) (by omega) hg hB h_qa ) (lw_V q1040 q1041 q1042 q85 q1043) ydv_J24_normalize (hB.recv hal) hS (fun q h => by have hsz := hS.1; (try dsimp only [gfr] at h ⊢) <;> omega) ⟨Nat.le_of_ble_eq_true rfl, Nat.le_of_ble_eq_true rfl⟩ ⟨by first | omega | (dsimp only; omega), by first | omega | (dsimp only; omega)⟩ (Nat.le_of_ble_eq_true rfl) dJ24_divideOneWord_316 (fun H_8 locs hp hex hS => ?_)
            have sz_H_8 : H_7.size ≤ H_8.size := hex.1
            have hO := hO.ex hex (by intro h; (try dsimp only [gfr] at h) <;> omega)
            have hA := hA.ex hex (by intro h; (try dsimp only [gfr] at h) <;> omega)
            have hQ := hQ.ex hex (by intro h; (try dsimp only [gfr] at h) <;> omega)
            have h_qa := h_qa.ex hex (by intro h; (try dsimp only [gfr] at h) <;> omega)
            obtain ⟨n1, o1, hn1, ho1, hs1, hz1, hB1⟩ := hp
            have lt_b := hB1.lt
            refine lv_iload hx hb dJ24_divideOneWord_319 (lv_at hl 3 rfl) ?_
            refine lv_if_le (tgt := 329) hx hb dJ24_divideOneWord_321 (by decide) (fun c_321 => False.elim (by
              have c_321 := (ai_le (a := (32 - b0)) (b := 0) (rfl) (rfl) (by omega) (by omega)).mp c_321
              omega)) (fun c_321 => ?_)
            have c_321 := mt (ai_le (a := (32 - b0)) (b := 0) (rfl) (rfl) (by omega) (by omega)).mpr c_321
            refine lv_iload hx hb dJ24_divideOneWord_324 (lv_at hl 2 rfl) ?_
            refine lv_iload_n hx hb dJ24_divideOneWord_326 rfl (lv_at hl 6 rfl) ?_
            refine lv_irem hx hb dJ24_divideOneWord_327 (nI_ne0 (by omega) (by omega)) ?_
            refine g_topi (v := nI (R % X)) (ai_rem (a := R) (b := X) (rfl) (rfl) (by omega) (by omega) (by omega)) ?_
            refine g_iret hx hb hr hlocks hS (by first | omega | (dsimp only; omega)) (by first | omega | (dsimp only; omega)) ?_ dJ24_divideOneWord_328
            have hjn : j + 1 = n := by omega
            rw [hjn] at hv
            have hQv := (div_at hv hR).1
            rw [hQv]
            exact ⟨qa, n1, o1, n, g, hg, ho1, by omega, hs1, hz1, Or.inr (by omega), hB1, h_qa⟩
          · skip
            have c_203 := mt (ai_le (a := ((n - j) - 1)) (b := 0) (rfl) (rfl) (by omega) (by omega)).mpr c_203
            have hdj := hd (j + 1)
            have hEq := dow_q hR hdj
            have hst := dow_step (B := 4294967296) (D := d (j + 1)) hv rfl hX0
            refine lv_lload hx hb dJ24_divideOneWord_206 (lv_at hl 1 rfl) ?_
            refine lv_bipush (v := 32) hx hb dJ24_divideOneWord_208 (by decide) ?_
            refine lv_lshl hx hb dJ24_divideOneWord_210 rfl ?_
            refine g_topl (v := lN (R * 4294967296)) (lN_shl32 (a := R)) ?_
            refine lv_aload_n hx hb dJ24_divideOneWord_211 rfl (lv_at hl 5 rfl) ?_
            refine gw_get (C := RJ24) (T := TJ24) (N := 3) (v := .ref va) hx hb hts in_J24 hown hal hO 0 (by decide) (hts _ q979) (fun _ h9 => h9) rfl dJ24_divideOneWord_212 ?_
            refine lv_aload_n hx hb dJ24_divideOneWord_215 rfl (lv_at hl 5 rfl) ?_
            refine gw_get (C := RJ24) (T := TJ24) (N := 3) (v := .int 0) hx hb hts in_J24 hown hal hO 2 (by decide) (hts _ q981) (fun _ h9 => h9) rfl dJ24_divideOneWord_216 ?_
            refine lv_aload_n hx hb dJ24_divideOneWord_219 rfl (lv_at hl 5 rfl) ?_
            refine gw_get (C := RJ24) (T := TJ24) (N := 3) (v := .int (nI n)) hx hb hts in_J24 hown hal hO 1 (by decide) (hts _ q980) (fun _ h9 => h9) rfl dJ24_divideOneWord_220 ?_
            refine lv_iadd hx hb dJ24_divideOneWord_223 ?_
            refine g_topi (v := nI n) (ai_add0l (b := n) (rfl) (rfl)) ?_
            refine lv_iload hx hb dJ24_divideOneWord_224 (lv_at hl 0 rfl) ?_
            refine lv_isub hx hb dJ24_divideOneWord_226 ?_
            refine g_topi (v := (nI (j + 1))) ((ai_sub (a := n) (b := n - j - 1) rfl rfl (by omega)).trans (congrArg nI (by omega))) ?_
            refine gw_iald hx hb hal hA (j + 1) (rfl) (by omega) (by omega) dJ24_divideOneWord_227 ?_
            refine g_topi (v := (nI (d (j + 1)))) rfl ?_
            refine lv_i2l hx hb dJ24_divideOneWord_228 rfl ?_
            refine lv_ldc2 (v := 4294967295) hx hb hown (hts _ q1035) dJ24_divideOneWord_229 ?_
            refine lv_land hx hb dJ24_divideOneWord_232 ?_
            refine g_topl (v := lN (d (j + 1))) (mk32 (a := (d (j + 1))) (rfl) (hd _)) ?_
            refine lv_lor hx hb dJ24_divideOneWord_233 ?_
            refine g_topl (v := (lN (R * 4294967296 + d (j + 1)))) (lN_or (hd _) (by omega)) ?_
            refine lv_lstore hx hb dJ24_divideOneWord_234 hl (by decide) rfl (fun ls hl => ?_)
            have hl : lv_has ls 15 [(10, .long (lN (R * 4294967296 + d (j + 1)))), (9, .int (nI ((n - j) - 1))), (7, .long (lN R)), (6, .int (nI R)), (5, .int (nI (32 - b0))), (3, .long (lN X)), (0, .ref a), (1, .int (nI X)), (2, .ref b)] := hl
            refine lv_lload hx hb dJ24_divideOneWord_236 (lv_at hl 0 rfl) ?_
            refine lv_lconst (v := 0) hx hb dJ24_divideOneWord_238 (by decide) ?_
            refine W.lcmp hx hb dJ24_divideOneWord_239 ?_
            refine lv_if_lt (tgt := 264) hx hb dJ24_divideOneWord_240 (by decide) (fun c_240 => False.elim (by
              have c_240 := (ai_clt (a := ((R * 4294967296 + d (j + 1)) : Nat)) (b := 0) (lN_lI _) (by decide) (by omega) (by omega) (by omega) (by omega)).mp c_240
              omega)) (fun c_240 => ?_)
            have c_240 := mt (ai_clt (a := ((R * 4294967296 + d (j + 1)) : Nat)) (b := 0) (lN_lI _) (by decide) (by omega) (by omega) (by omega) (by omega)).mpr c_240
            refine lv_lload hx hb dJ24_divideOneWord_243 (lv_at hl 0 rfl) ?_
            refine lv_lload_n hx hb dJ24_divideOneWord_245 rfl (lv_at hl 5 rfl) ?_
            refine lv_ldiv hx hb dJ24_divideOneWord_246 (lN_ne0 hX0 (by omega)) ?_
            refine g_topl (v := (lN ((R * 4294967296 + d (j + 1)) / X))) (lN_div (by omega) (by omega) (by omega)) ?_
            refine lv_l2i hx hb dJ24_divideOneWord_247 rfl ?_
            refine g_topi (v := nI ((R * 4294967296 + d (j + 1)) / X)) (ai_l2i (rfl)) ?_
            refine lv_istore hx hb dJ24_divideOneWord_248 hl (by decide) rfl (fun ls hl => ?_)
            have hl : lv_has ls 15 [(12, .int (nI ((R * 4294967296 + d (j + 1)) / X))), (10, .long (lN (R * 4294967296 + d (j + 1)))), (9, .int (nI ((n - j) - 1))), (7, .long (lN R)), (6, .int (nI R)), (5, .int (nI (32 - b0))), (3, .long (lN X)), (0, .ref a), (1, .int (nI X)), (2, .ref b)] := hl
            refine lv_lload hx hb dJ24_divideOneWord_250 (lv_at hl 1 rfl) ?_
            refine lv_iload hx hb dJ24_divideOneWord_252 (lv_at hl 0 rfl) ?_
            refine lv_i2l hx hb dJ24_divideOneWord_254 rfl ?_
            refine lv_lload_n hx hb dJ24_divideOneWord_255 rfl (lv_at hl 6 rfl) ?_
            refine lv_lmul hx hb dJ24_divideOneWord_256 ?_
            refine lv_lsub hx hb dJ24_divideOneWord_257 ?_
            refine lv_l2i hx hb dJ24_divideOneWord_258 rfl ?_
            refine g_topi (v := (nI (R * 4294967296 + d (j + 1) - (R * 4294967296 + d (j + 1)) / X * X))) (l2i_sx hst.2.2 hEq) ?_
            refine lv_istore hx hb dJ24_divideOneWord_259 hl (by decide) rfl (fun ls hl => ?_)
            have hl : lv_has ls 15 [(6, .int (nI (R * 4294967296 + d (j + 1) - (R * 4294967296 + d (j + 1)) / X * X))), (12, .int (nI ((R * 4294967296 + d (j + 1)) / X))), (10, .long (lN (R * 4294967296 + d (j + 1)))), (9, .int (nI ((n - j) - 1))), (7, .long (lN R)), (5, .int (nI (32 - b0))), (3, .long (lN X)), (0, .ref a), (1, .int (nI X)), (2, .ref b)] := hl
            refine lv_goto (tgt := 289) hx hb dJ24_divideOneWord_261 (by decide) ?_
            refine lv_aload_n hx hb dJ24_divideOneWord_289 rfl (lv_at hl 9 rfl) ?_
            refine gw_get (C := RJ24) (T := TJ24) (N := 3) (v := .ref qa) hx hb hts in_J24 hown hal hB 0 (by decide) (hts _ q979) (fun _ h9 => h9) rfl dJ24_divideOneWord_290 ?_
            refine lv_aload_n hx hb dJ24_divideOneWord_293 rfl (lv_at hl 7 rfl) ?_
            refine gw_get (C := RJ24) (T := TJ24) (N := 3) (v := .int (nI n)) hx hb hts in_J24 hown hal hO 1 (by decide) (hts _ q980) (fun _ h9 => h9) rfl dJ24_divideOneWord_294 ?_
            refine lv_iload hx hb dJ24_divideOneWord_297 (lv_at hl 3 rfl) ?_
            refine lv_isub hx hb dJ24_divideOneWord_299 ?_
            refine g_topi (v := (nI (j + 1))) ((ai_sub (a := n) (b := n - j - 1) rfl rfl (by omega)).trans (congrArg nI (by omega))) ?_
            refine lv_iload hx hb dJ24_divideOneWord_300 (lv_at hl 1 rfl) ?_
            refine gw_iast (f := (dI g)) hx hb hal h_qa hS (by have hsz := hS.1; (try dsimp only [gfr]) <;> omega) (j + 1) (rfl) (by omega) (by omega) dJ24_divideOneWord_302 (fun H_10 locs h_new hch hS => ?_)
            have hO := hO.ch hch (by omega)
            have hA := hA.ch hch (by omega)
            have hB := hB.ch hch (by omega)
            have hQ := hQ.ch hch (by omega)
            have sz_H_10 := hch.1
            clear hch
            have h_qa : gI z true .int H_10 qa n (upd (dI g) (j + 1) (nI ((R * 4294967296 + d (j + 1)) / X))) := h_new
            replace h_qa : gI z true .int H_10 qa n (dI (dup g (j + 1) (((R * 4294967296 + d (j + 1)) / X) % 4294967296))) := by
              have q := h_qa
              rw [dI_put] at q
              exact q
            have bd_11 : ∀ ix, (dup g (j + 1) (((R * 4294967296 + d (j + 1)) / X) % 4294967296)) ix < 4294967296 := dup_lt hg (Nat.mod_lt _ (by decide))
            refine lv_iload hx hb dJ24_divideOneWord_303 (lv_at hl 0 rfl) ?_
            refine lv_i2l hx hb dJ24_divideOneWord_305 rfl ?_
            refine lv_ldc2 (v := 4294967295) hx hb hown (hts _ q1035) dJ24_divideOneWord_306 ?_
            refine lv_land hx hb dJ24_divideOneWord_309 ?_
            refine g_topl (v := lN (R * 4294967296 + d (j + 1) - (R * 4294967296 + d (j + 1)) / X * X)) (mk32 (a := (R * 4294967296 + d (j + 1) - (R * 4294967296 + d (j + 1)) / X * X)) (rfl) (by omega)) ?_
            refine lv_lstore hx hb dJ24_divideOneWord_310 hl (by decide) rfl (fun ls hl => ?_)
            have hl : lv_has ls 15 [(7, .long (lN (R * 4294967296 + d (j + 1) - (R * 4294967296 + d (j + 1)) / X * X))), (6, .int (nI (R * 4294967296 + d (j + 1) - (R * 4294967296 + d (j + 1)) / X * X))), (12, .int (nI ((R * 4294967296 + d (j + 1)) / X))), (10, .long (lN (R * 4294967296 + d (j + 1)))), (9, .int (nI ((n - j) - 1))), (5, .int (nI (32 - b0))), (3, .long (lN X)), (0, .ref a), (1, .int (nI X)), (2, .ref b)] := hl
            refine lv_goto (tgt := 198) hx hb dJ24_divideOneWord_312 (by decide) ?_
            exact ih_loopA (j + 1) ((R * 4294967296 + d (j + 1)) - (R * 4294967296 + d (j + 1)) / X * X) (dup g (j + 1) (((R * 4294967296 + d (j + 1)) / X) % 4294967296)) (by omega) hst.2.1 bd_11 (dow_app hst.1 hEq) (by omega) H_10 _ hS hO hA hB hQ h_qa ls (lv_sub hl [4, 0, 1, 5, 6, 7, 8, 9] rfl)
      exact loopA _ 0 (d 0 - d 0 / X * X) (dup (fun _ => 0) 0 ((d 0 / X) % 4294967296)) (by omega) hr00 bd_6 (dow_0 (by omega) hq00) (Nat.lt_succ_self _) H_5 _ hS hO hA hB hQ h_qa ls (lv_sub hl [0, 1, 2, 3, 4, 5, 6, 7] rfl)
    · skip
      have c_144 := mt (ai_cge (a := ((d 0) : Nat)) (b := (X : Nat)) (lN_lI _) (lN_lI _) (by omega) (by omega) (by omega) (by omega)).mpr c_144
      refine lv_aload_n hx hb dJ24_divideOneWord_147 rfl (lv_at hl 6 rfl) ?_
      refine gw_get (C := RJ24) (T := TJ24) (N := 3) (v := .ref qa) hx hb hts in_J24 hown hal hB 0 (by decide) (hts _ q979) (fun _ h9 => h9) rfl dJ24_divideOneWord_148 ?_
      refine lv_iconst (v := 0) hx hb dJ24_divideOneWord_151 (by decide) ?_
      refine lv_iconst (v := 0) hx hb dJ24_divideOneWord_152 (by decide) ?_
      refine gw_iast (f := (dI (fun _ => 0))) hx hb hal h_qa hS (by have hsz := hS.1; (try dsimp only [gfr]) <;> omega) 0 (rfl) (by omega) (by omega) dJ24_divideOneWord_153 (fun H_12 locs h_new hch hS => ?_)
      have hO := hO.ch hch (by omega)
      have hA := hA.ch hch (by omega)
      have hB := hB.ch hch (by omega)
      have hQ := hQ.ch hch (by omega)
      have sz_H_12 := hch.1
      clear hch
      have h_qa : gI z true .int H_12 qa n (upd (dI (fun _ => 0)) 0 0) := h_new
      replace h_qa : gI z true .int H_12 qa n (dI (dup (fun _ => 0) 0 (0 % 4294967296))) := by
        have q := h_qa
        rw [show (0 : Int32) = nI 0 from rfl] at q
        rw [dI_put] at q
        exact q
      have bd_13 : ∀ ix, (dup (fun _ => 0) 0 (0 % 4294967296)) ix < 4294967296 := dup_lt (fun _ => by decide) (Nat.mod_lt _ (by decide))
      refine lv_goto (tgt := 192) hx hb dJ24_divideOneWord_154 (by decide) ?_
      refine lv_aload_n hx hb dJ24_divideOneWord_192 rfl (lv_at hl 4 rfl) ?_
      refine gw_get (C := RJ24) (T := TJ24) (N := 3) (v := .int (nI n)) hx hb hts in_J24 hown hal hO 1 (by decide) (hts _ q980) (fun _ h9 => h9) rfl dJ24_divideOneWord_193 ?_
      refine lv_istore hx hb dJ24_divideOneWord_196 hl (by decide) rfl (fun ls hl => ?_)
      have hl : lv_has ls 15 [(9, .int (nI n)), (7, .long (lN (d 0))), (6, .int (nI (d 0))), (5, .int (nI (32 - b0))), (3, .long (lN X)), (0, .ref a), (1, .int (nI X)), (2, .ref b)] := hl
      replace hl : lv_has ls 15 [(9, .int (nI (n - 0))), (7, .long (lN (d 0))), (6, .int (nI (d 0))), (5, .int (nI (32 - b0))), (3, .long (lN X)), (0, .ref a), (1, .int (nI X)), (2, .ref b)] := by
        exact hl
      have loopA : ∀ (n_ : Nat) (j R : Nat) (g : Nat → Nat), (j < n) → (R < X) → (∀ i, g i < 4294967296) → (seg d 0 (j + 1) = seg g 0 (j + 1) * X + R) → (n - j) < n_ → ∀ (H_14 : Heap) (locs : List Loc), va_S (fun q => q = b ∨ q = vq ∨ H0.size ≤ q) H0 H_14 locs → gO z wa RJ24 TJ24 3 H_14 a [.ref va, .int (nI n), .int 0] → gI z xa .int H_14 va na (dI d) → gO z true RJ24 TJ24 3 H_14 b [.ref qa, .int (nI n), .int 0] → gI z true .int H_14 vq 1 (dI (fun _ => 0)) → gI z true .int H_14 qa n (dI g) → ∀ (ls : Array Slot), lv_has ls 15 [(9, .int (nI (n - j))), (7, .long (lN R)), (6, .int (nI R)), (5, .int (nI (32 - b0))), (3, .long (lN X)), (0, .ref a), (1, .int (nI X)), (2, .ref b)] → W p l e { frames := 1, cells := 1, slots := n, locals := 23 } s m [.ref a, .int (nI X), .ref b].toArray below meth c H_14 locs 1 (0 + n) (MQ below (gRi (fun q => q = b ∨ q = vq ∨ H0.size ≤ q) H0 (fun r H1 => mQ z H0.size H1 b vq (n + 1) (seg d 0 n / X))) [.ref a, .int (nI X), .ref b].toArray s 1 n (fun q => q = b ∨ q = vq ∨ H0.size ≤ q)) (F0 m 198 ls []) := by
        intro n_
        induction n_ with
        | zero => intro j R g hj hR hg hv hm_; exact absurd hm_ (Nat.not_lt_zero _)
        | succ n_ ih_loopA =>
          intro j R g hj hR hg hv hm_ H_14 locs hS hO hA hB hQ h_qa ls hl
          refine lv_iinc (k := 0) (v := (nI ((n - j) - 1))) hx hb dJ24_divideOneWord_198 hl rfl (ai_sbn (a := (n - j)) (b := 1) (rfl) (show Int32.ofInt (-1) = -nI 1 by decide) (by omega)) (by decide) rfl (fun ls hl => ?_)
          have hl : lv_has ls 15 [(9, .int (nI ((n - j) - 1))), (7, .long (lN R)), (6, .int (nI R)), (5, .int (nI (32 - b0))), (3, .long (lN X)), (0, .ref a), (1, .int (nI X)), (2, .ref b)] := hl
          refine lv_iload hx hb dJ24_divideOneWord_201 (lv_at hl 0 rfl) ?_
          refine lv_if_le (tgt := 315) hx hb dJ24_divideOneWord_203 (by decide) (fun c_203 => ?_) (fun c_203 => ?_)
          · skip
            have c_203 := (ai_le (a := ((n - j) - 1)) (b := 0) (rfl) (rfl) (by omega) (by omega)).mp c_203
            refine lv_aload_n hx hb dJ24_divideOneWord_315 rfl (lv_at hl 7 rfl) ?_
            have hsz := hS.1
            refine gcV0_v hCF hwm hl.1 (m_norm l z H_14 b qa n 0 n true g (by omega) (by omega) (by omega) hg hB h_qa ) (lw_V q1040 q1041 q1042 q85 q1043) ydv_J24_normalize (hB.recv hal) hS (fun q h => by have hsz := hS.1; (try dsimp only [gfr] at h ⊢) <;> omega) ⟨Nat.le_of_ble_eq_true rfl, Nat.le_of_ble_eq_true rfl⟩ ⟨by first | omega | (dsimp only; omega), by first | omega | (dsimp only; omega)⟩ (Nat.le_of_ble_eq_true rfl) dJ24_divideOneWord_316 (fun H_15 locs hp hex hS => ?_)
            have sz_H_15 : H_14.size ≤ H_15.size := hex.1
            have hO := hO.ex hex (by intro h; (try dsimp only [gfr] at h) <;> omega)
            have hA := hA.ex hex (by intro h; (try dsimp only [gfr] at h) <;> omega)
            have hQ := hQ.ex hex (by intro h; (try dsimp only [gfr] at h) <;> omega)
            have h_qa := h_qa.ex hex (by intro h; (try dsimp only [gfr] at h) <;> omega)
            obtain ⟨n1, o1, hn1, ho1, hs1, hz1, hB1⟩ := hp
            have lt_b := hB1.lt
            refine lv_iload hx hb dJ24_divideOneWord_319 (lv_at hl 3 rfl) ?_
            refine lv_if_le (tgt := 329) hx hb dJ24_divideOneWord_321 (by decide) (fun c_321 => False.elim (by
              have c_321 := (ai_le (a := (32 - b0)) (b := 0) (rfl) (rfl) (by omega) (by omega)).mp c_321
              omega)) (fun c_321 => ?_)
            have c_321 := mt (ai_le (a := (32 - b0)) (b := 0) (rfl) (rfl) (by omega) (by omega)).mpr c_321
            refine lv_iload hx hb dJ24_divideOneWord_324 (lv_at hl 2 rfl) ?_
            refine lv_iload_n hx hb dJ24_divideOneWord_326 rfl (lv_at hl 6 rfl) ?_
            refine lv_irem hx hb dJ24_divideOneWord_327 (nI_ne0 (by omega) (by omega)) ?_
            refine g_topi (v := nI (R % X)) (ai_rem (a := R) (b := X) (rfl) (rfl) (by omega) (by omega) (by omega)) ?_
            refine g_iret hx hb hr hlocks hS (by first | omega | (dsimp only; omega)) (by first | omega | (dsimp only; omega)) ?_ dJ24_divideOneWord_328
            have hjn : j + 1 = n := by omega
            rw [hjn] at hv
            have hQv := (div_at hv hR).1
            rw [hQv]
            exact ⟨qa, n1, o1, n, g, hg, ho1, by omega, hs1, hz1, Or.inr (by omega), hB1, h_qa⟩
          · skip
            have c_203 := mt (ai_le (a := ((n - j) - 1)) (b := 0) (rfl) (rfl) (by omega) (by omega)).mpr c_203
            have hdj := hd (j + 1)
            have hEq := dow_q hR hdj
            have hst := dow_step (B := 4294967296) (D := d (j + 1)) hv rfl hX0
            refine lv_lload hx hb dJ24_divideOneWord_206 (lv_at hl 1 rfl) ?_
            refine lv_bipush (v := 32) hx hb dJ24_divideOneWord_208 (by decide) ?_
            refine lv_lshl hx hb dJ24_divideOneWord_210 rfl ?_
            refine g_topl (v := lN (R * 4294967296)) (lN_shl32 (a := R)) ?_
            refine lv_aload_n hx hb dJ24_divideOneWord_211 rfl (lv_at hl 5 rfl) ?_
            refine gw_get (C := RJ24) (T := TJ24) (N := 3) (v := .ref va) hx hb hts in_J24 hown hal hO 0 (by decide) (hts _ q979) (fun _ h9 => h9) rfl dJ24_divideOneWord_212 ?_
            refine lv_aload_n hx hb dJ24_divideOneWord_215 rfl (lv_at hl 5 rfl) ?_
            refine gw_get (C := RJ24) (T := TJ24) (N := 3) (v := .int 0) hx hb hts in_J24 hown hal hO 2 (by decide) (hts _ q981) (fun _ h9 => h9) rfl dJ24_divideOneWord_216 ?_
            refine lv_aload_n hx hb dJ24_divideOneWord_219 rfl (lv_at hl 5 rfl) ?_
            refine gw_get (C := RJ24) (T := TJ24) (N := 3) (v := .int (nI n)) hx hb hts in_J24 hown hal hO 1 (by decide) (hts _ q980) (fun _ h9 => h9) rfl dJ24_divideOneWord_220 ?_
            refine lv_iadd hx hb dJ24_divideOneWord_223 ?_
            refine g_topi (v := nI n) (ai_add0l (b := n) (rfl) (rfl)) ?_
            refine lv_iload hx hb dJ24_divideOneWord_224 (lv_at hl 0 rfl) ?_
            refine lv_isub hx hb dJ24_divideOneWord_226 ?_
            refine g_topi (v := (nI (j + 1))) ((ai_sub (a := n) (b := n - j - 1) rfl rfl (by omega)).trans (congrArg nI (by omega))) ?_
            refine gw_iald hx hb hal hA (j + 1) (rfl) (by omega) (by omega) dJ24_divideOneWord_227 ?_
            refine g_topi (v := (nI (d (j + 1)))) rfl ?_
            refine lv_i2l hx hb dJ24_divideOneWord_228 rfl ?_
            refine lv_ldc2 (v := 4294967295) hx hb hown (hts _ q1035) dJ24_divideOneWord_229 ?_
            refine lv_land hx hb dJ24_divideOneWord_232 ?_
            refine g_topl (v := lN (d (j + 1))) (mk32 (a := (d (j + 1))) (rfl) (hd _)) ?_
            refine lv_lor hx hb dJ24_divideOneWord_233 ?_
            refine g_topl (v := (lN (R * 4294967296 + d (j + 1)))) (lN_or (hd _) (by omega)) ?_
            refine lv_lstore hx hb dJ24_divideOneWord_234 hl (by decide) rfl (fun ls hl => ?_)
            have hl : lv_has ls 15 [(10, .long (lN (R * 4294967296 + d (j + 1)))), (9, .int (nI ((n - j) - 1))), (7, .long (lN R)), (6, .int (nI R)), (5, .int (nI (32 - b0))), (3, .long (lN X)), (0, .ref a), (1, .int (nI X)), (2, .ref b)] := hl
            refine lv_lload hx hb dJ24_divideOneWord_236 (lv_at hl 0 rfl) ?_
            refine lv_lconst (v := 0) hx hb dJ24_divideOneWord_238 (by decide) ?_
            refine W.lcmp hx hb dJ24_divideOneWord_239 ?_
            refine lv_if_lt (tgt := 264) hx hb dJ24_divideOneWord_240 (by decide) (fun c_240 => False.elim (by
              have c_240 := (ai_clt (a := ((R * 4294967296 + d (j + 1)) : Nat)) (b := 0) (lN_lI _) (by decide) (by omega) (by omega) (by omega) (by omega)).mp c_240
              omega)) (fun c_240 => ?_)
            have c_240 := mt (ai_clt (a := ((R * 4294967296 + d (j + 1)) : Nat)) (b := 0) (lN_lI _) (by decide) (by omega) (by omega) (by omega) (by omega)).mpr c_240
            refine lv_lload hx hb dJ24_divideOneWord_243 (lv_at hl 0 rfl) ?_
            refine lv_lload_n hx hb dJ24_divideOneWord_245 rfl (lv_at hl 5 rfl) ?_
            refine lv_ldiv hx hb dJ24_divideOneWord_246 (lN_ne0 hX0 (by omega)) ?_
            refine g_topl (v := (lN ((R * 4294967296 + d (j + 1)) / X))) (lN_div (by omega) (by omega) (by omega)) ?_
            refine lv_l2i hx hb dJ24_divideOneWord_247 rfl ?_
            refine g_topi (v := nI ((R * 4294967296 + d (j + 1)) / X)) (ai_l2i (rfl)) ?_
            refine lv_istore hx hb dJ24_divideOneWord_248 hl (by decide) rfl (fun ls hl => ?_)
            have hl : lv_has ls 15 [(12, .int (nI ((R * 4294967296 + d (j + 1)) / X))), (10, .long (lN (R * 4294967296 + d (j + 1)))), (9, .int (nI ((n - j) - 1))), (7, .long (lN R)), (6, .int (nI R)), (5, .int (nI (32 - b0))), (3, .long (lN X)), (0, .ref a), (1, .int (nI X)), (2, .ref b)] := hl
            refine lv_lload hx hb dJ24_divideOneWord_250 (lv_at hl 1 rfl) ?_
            refine lv_iload hx hb dJ24_divideOneWord_252 (lv_at hl 0 rfl) ?_
            refine lv_i2l hx hb dJ24_divideOneWord_254 rfl ?_
            refine lv_lload_n hx hb dJ24_divideOneWord_255 rfl (lv_at hl 6 rfl) ?_
            refine lv_lmul hx hb dJ24_divideOneWord_256 ?_
            refine lv_lsub hx hb dJ24_divideOneWord_257 ?_
            refine lv_l2i hx hb dJ24_divideOneWord_258 rfl ?_
            refine g_topi (v := (nI (R * 4294967296 + d (j + 1) - (R * 4294967296 + d (j + 1)) / X * X))) (l2i_sx hst.2.2 hEq) ?_
            refine lv_istore hx hb dJ24_divideOneWord_259 hl (by decide) rfl (fun ls hl => ?_)
            have hl : lv_has ls 15 [(6, .int (nI (R * 4294967296 + d (j + 1) - (R * 4294967296 + d (j + 1)) / X * X))), (12, .int (nI ((R * 4294967296 + d (j + 1)) / X))), (10, .long (lN (R * 4294967296 + d (j + 1)))), (9, .int (nI ((n - j) - 1))), (7, .long (lN R)), (5, .int (nI (32 - b0))), (3, .long (lN X)), (0, .ref a), (1, .int (nI X)), (2, .ref b)] := hl
            refine lv_goto (tgt := 289) hx hb dJ24_divideOneWord_261 (by decide) ?_
            refine lv_aload_n hx hb dJ24_divideOneWord_289 rfl (lv_at hl 9 rfl) ?_
            refine gw_get (C := RJ24) (T := TJ24) (N := 3) (v := .ref qa) hx hb hts in_J24 hown hal hB 0 (by decide) (hts _ q979) (fun _ h9 => h9) rfl dJ24_divideOneWord_290 ?_
            refine lv_aload_n hx hb dJ24_divideOneWord_293 rfl (lv_at hl 7 rfl) ?_
            refine gw_get (C := RJ24) (T := TJ24) (N := 3) (v := .int (nI n)) hx hb hts in_J24 hown hal hO 1 (by decide) (hts _ q980) (fun _ h9 => h9) rfl dJ24_divideOneWord_294 ?_
            refine lv_iload hx hb dJ24_divideOneWord_297 (lv_at hl 3 rfl) ?_
            refine lv_isub hx hb dJ24_divideOneWord_299 ?_
            refine g_topi (v := (nI (j + 1))) ((ai_sub (a := n) (b := n - j - 1) rfl rfl (by omega)).trans (congrArg nI (by omega))) ?_
            refine lv_iload hx hb dJ24_divideOneWord_300 (lv_at hl 1 rfl) ?_
            refine gw_iast (f := (dI g)) hx hb hal h_qa hS (by have hsz := hS.1; (try dsimp only [gfr]) <;> omega) (j + 1) (rfl) (by omega) (by omega) dJ24_divideOneWord_302 (fun H_17 locs h_new hch hS => ?_)
            have hO := hO.ch hch (by omega)
            have hA := hA.ch hch (by omega)
            have hB := hB.ch hch (by omega)
            have hQ := hQ.ch hch (by omega)
            have sz_H_17 := hch.1
            clear hch
            have h_qa : gI z true .int H_17 qa n (upd (dI g) (j + 1) (nI ((R * 4294967296 + d (j + 1)) / X))) := h_new
            replace h_qa : gI z true .int H_17 qa n (dI (dup g (j + 1) (((R * 4294967296 + d (j + 1)) / X) % 4294967296))) := by
              have q := h_qa
              rw [dI_put] at q
              exact q
            have bd_18 : ∀ ix, (dup g (j + 1) (((R * 4294967296 + d (j + 1)) / X) % 4294967296)) ix < 4294967296 := dup_lt hg (Nat.mod_lt _ (by decide))
            refine lv_iload hx hb dJ24_divideOneWord_303 (lv_at hl 0 rfl) ?_
            refine lv_i2l hx hb dJ24_divideOneWord_305 rfl ?_
            refine lv_ldc2 (v := 4294967295) hx hb hown (hts _ q1035) dJ24_divideOneWord_306 ?_
            refine lv_land hx hb dJ24_divideOneWord_309 ?_
            refine g_topl (v := lN (R * 4294967296 + d (j + 1) - (R * 4294967296 + d (j + 1)) / X * X)) (mk32 (a := (R * 4294967296 + d (j + 1) - (R * 4294967296 + d (j + 1)) / X * X)) (rfl) (by omega)) ?_
            refine lv_lstore hx hb dJ24_divideOneWord_310 hl (by decide) rfl (fun ls hl => ?_)
            have hl : lv_has ls 15 [(7, .long (lN (R * 4294967296 + d (j + 1) - (R * 4294967296 + d (j + 1)) / X * X))), (6, .int (nI (R * 4294967296 + d (j + 1) - (R * 4294967296 + d (j + 1)) / X * X))), (12, .int (nI ((R * 4294967296 + d (j + 1)) / X))), (10, .long (lN (R * 4294967296 + d (j + 1)))), (9, .int (nI ((n - j) - 1))), (5, .int (nI (32 - b0))), (3, .long (lN X)), (0, .ref a), (1, .int (nI X)), (2, .ref b)] := hl
            refine lv_goto (tgt := 198) hx hb dJ24_divideOneWord_312 (by decide) ?_
            exact ih_loopA (j + 1) ((R * 4294967296 + d (j + 1)) - (R * 4294967296 + d (j + 1)) / X * X) (dup g (j + 1) (((R * 4294967296 + d (j + 1)) / X) % 4294967296)) (by omega) hst.2.1 bd_18 (dow_app hst.1 hEq) (by omega) H_17 _ hS hO hA hB hQ h_qa ls (lv_sub hl [4, 0, 1, 5, 6, 7, 8, 9] rfl)
      exact loopA _ 0 (d 0) (dup (fun _ => 0) 0 (0 % 4294967296)) (by omega) (by omega) bd_13 (dow_0 (q := 0) (by omega) (by decide)) (Nat.lt_succ_self _) H_12 _ hS hO hA hB hQ h_qa ls (lv_sub hl [0, 1, 2, 3, 4, 5, 6, 7] rfl)
  · skip
    have c_12 := (ai_eq (a := n) (b := 1) (rfl) (rfl) (by omega) (by omega)).mp c_12
    refine lv_aload_n hx hb dJ24_divideOneWord_15 rfl (lv_at hl 1 rfl) ?_
    refine gw_get (C := RJ24) (T := TJ24) (N := 3) (v := .ref va) hx hb hts in_J24 hown hal hO 0 (by decide) (hts _ q979) (fun _ h9 => h9) rfl dJ24_divideOneWord_16 ?_
    refine lv_aload_n hx hb dJ24_divideOneWord_19 rfl (lv_at hl 1 rfl) ?_
    refine gw_get (C := RJ24) (T := TJ24) (N := 3) (v := .int 0) hx hb hts in_J24 hown hal hO 2 (by decide) (hts _ q981) (fun _ h9 => h9) rfl dJ24_divideOneWord_20 ?_
    refine gw_iald hx hb hal hA 0 (rfl) (by omega) (by omega) dJ24_divideOneWord_23 ?_
    refine g_topi (v := (nI (d 0))) rfl ?_
    refine lv_i2l hx hb dJ24_divideOneWord_24 rfl ?_
    refine lv_ldc2 (v := 4294967295) hx hb hown (hts _ q1035) dJ24_divideOneWord_25 ?_
    refine lv_land hx hb dJ24_divideOneWord_28 ?_
    refine g_topl (v := lN (d 0)) (mk32 (a := (d 0)) (rfl) (hd _)) ?_
    refine lv_lstore hx hb dJ24_divideOneWord_29 hl (by decide) rfl (fun ls hl => ?_)
    have hl : lv_has ls 15 [(5, .long (lN (d 0))), (3, .long (lN X)), (0, .ref a), (1, .int (nI X)), (2, .ref b)] := hl
    refine lv_lload hx hb dJ24_divideOneWord_31 (lv_at hl 0 rfl) ?_
    refine lv_lload_n hx hb dJ24_divideOneWord_33 rfl (lv_at hl 1 rfl) ?_
    refine lv_ldiv hx hb dJ24_divideOneWord_34 (lN_ne0 hX0 (by omega)) ?_
    refine g_topl (v := (lN (d 0 / X))) (lN_div (by omega) (by omega) (by omega)) ?_
    refine lv_l2i hx hb dJ24_divideOneWord_35 rfl ?_
    refine g_topi (v := nI (d 0 / X)) (ai_l2i (rfl)) ?_
    refine lv_istore hx hb dJ24_divideOneWord_36 hl (by decide) rfl (fun ls hl => ?_)
    have hl : lv_has ls 15 [(7, .int (nI (d 0 / X))), (5, .long (lN (d 0))), (3, .long (lN X)), (0, .ref a), (1, .int (nI X)), (2, .ref b)] := hl
    refine lv_lload hx hb dJ24_divideOneWord_38 (lv_at hl 1 rfl) ?_
    refine lv_iload hx hb dJ24_divideOneWord_40 (lv_at hl 0 rfl) ?_
    refine lv_i2l hx hb dJ24_divideOneWord_42 rfl ?_
    refine lv_lload_n hx hb dJ24_divideOneWord_43 rfl (lv_at hl 2 rfl) ?_
    refine lv_lmul hx hb dJ24_divideOneWord_44 ?_
    refine lv_lsub hx hb dJ24_divideOneWord_45 ?_
    refine lv_l2i hx hb dJ24_divideOneWord_46 rfl ?_
    refine g_topi (v := (nI (d 0 - d 0 / X * X))) (l2i_sx hq01 hq00) ?_
    refine lv_istore hx hb dJ24_divideOneWord_47 hl (by decide) rfl (fun ls hl => ?_)
    have hl : lv_has ls 15 [(8, .int (nI (d 0 - d 0 / X * X))), (7, .int (nI (d 0 / X))), (5, .long (lN (d 0))), (3, .long (lN X)), (0, .ref a), (1, .int (nI X)), (2, .ref b)] := hl
    refine lv_aload_n hx hb dJ24_divideOneWord_49 rfl (lv_at hl 6 rfl) ?_
    refine gw_get (C := RJ24) (T := TJ24) (N := 3) (v := .ref vq) hx hb hts in_J24 hown hal hB 0 (by decide) (hts _ q979) (fun _ h9 => h9) rfl dJ24_divideOneWord_50 ?_
    refine lv_iconst (v := 0) hx hb dJ24_divideOneWord_53 (by decide) ?_
    refine lv_iload hx hb dJ24_divideOneWord_54 (lv_at hl 1 rfl) ?_
    refine gw_iast (f := (dI (fun _ => 0))) hx hb hal hQ hS (by have hsz := hS.1; (try dsimp only [gfr]) <;> omega) 0 (rfl) (by omega) (by omega) dJ24_divideOneWord_56 (fun H_19 locs h_new hch hS => ?_)
    have hO := hO.ch hch (by omega)
    have hA := hA.ch hch (by omega)
    have hB := hB.ch hch (by omega)
    have sz_H_19 := hch.1
    clear hch
    have hQ : gI z true .int H_19 vq 1 (upd (dI (fun _ => 0)) 0 (nI (d 0 / X))) := h_new
    replace hQ : gI z true .int H_19 vq 1 (dI (dup (fun _ => 0) 0 ((d 0 / X) % 4294967296))) := by
      have q := hQ
      rw [dI_put] at q
      exact q
    have bd_20 : ∀ ix, (dup (fun _ => 0) 0 ((d 0 / X) % 4294967296)) ix < 4294967296 := dup_lt (fun _ => by decide) (Nat.mod_lt _ (by decide))
    refine lv_aload_n hx hb dJ24_divideOneWord_57 rfl (lv_at hl 6 rfl) ?_
    refine lv_iload hx hb dJ24_divideOneWord_58 (lv_at hl 1 rfl) ?_
    refine lv_if_ne (tgt := 67) hx hb dJ24_divideOneWord_60 (by decide) (fun c_60 => ?_) (fun c_60 => ?_)
    · skip
      have c_60 := mt (ai_eqU (a := (d 0 / X)) (b := 0) (rfl) (rfl) (hq00) (by omega)).mpr c_60
      refine lv_iconst (v := 1) hx hb dJ24_divideOneWord_67 (by decide) ?_
      refine gw_put (C := RJ24) (T := TJ24) (N := 3) (ty := .int) (v := .int 1) hx hb hts in_J24 tyJ24 tyJ24_ok nmJ24 (hts _ q974) hown hal hB hS (by have hsz := hS.1; (try dsimp only [gfr]) <;> omega) 1 (by decide) (hts _ q980) (fun _ h9 => h9) rfl (by decide +kernel) (rfl) (rfl) (Nat.le_of_ble_eq_true rfl) dJ24_divideOneWord_68 (fun H_21 locs h_new hch hS => ?_)
      have hO := hO.ch hch (by omega)
      have hA := hA.ch hch (by omega)
      have hQ := hQ.ch hch (by omega)
      have sz_H_21 := hch.1
      clear hch
      have hB : gO z true RJ24 TJ24 3 H_21 b [.ref vq, .int 1, .int 0] := h_new
      refine lv_aload_n hx hb dJ24_divideOneWord_71 rfl (lv_at hl 6 rfl) ?_
      refine lv_iconst (v := 0) hx hb dJ24_divideOneWord_72 (by decide) ?_
      refine gw_put (C := RJ24) (T := TJ24) (N := 3) (ty := .int) (v := .int 0) hx hb hts in_J24 tyJ24 tyJ24_ok nmJ24 (hts _ q974) hown hal hB hS (by have hsz := hS.1; (try dsimp only [gfr]) <;> omega) 2 (by decide) (hts _ q981) (fun _ h9 => h9) rfl (by decide +kernel) (rfl) (rfl) (Nat.le_of_ble_eq_true rfl) dJ24_divideOneWord_73 (fun H_22 locs h_new hch hS => ?_)
      have hO := hO.ch hch (by omega)
      have hA := hA.ch hch (by omega)
      have hQ := hQ.ch hch (by omega)
      have sz_H_22 := hch.1
      clear hch
      have hB : gO z true RJ24 TJ24 3 H_22 b [.ref vq, .int 1, .int 0] := h_new
      refine lv_iload hx hb dJ24_divideOneWord_76 (lv_at hl 0 rfl) ?_
      refine g_iret hx hb hr hlocks hS (by first | omega | (dsimp only; omega)) (by first | omega | (dsimp only; omega)) ?_ dJ24_divideOneWord_78
      have hn1 : n = 1 := by omega
      subst hn1
      rw [show seg d 0 1 = d 0 by rw [seg_r, seg_z, Nat.zero_mul, Nat.zero_add]]
      refine ⟨vq, 1, 0, 1, _, bd_20, by decide, by decide, ?_, ?_, Or.inl rfl, hB, hQ⟩
      · rw [seg_r, seg_z, Nat.zero_mul, Nat.zero_add]
        show dup _ _ _ 0 = _
        rw [dup_s, Nat.mod_eq_of_lt hq00]
      · refine Or.inr ⟨by decide, ?_⟩
        rw [dup_s, Nat.mod_eq_of_lt hq00]
        exact c_60
    · skip
      have c_60 := (ai_eqU (a := (d 0 / X)) (b := 0) (rfl) (rfl) (hq00) (by omega)).mp c_60
      refine lv_iconst (v := 0) hx hb dJ24_divideOneWord_63 (by decide) ?_
      refine lv_goto (tgt := 68) hx hb dJ24_divideOneWord_64 (by decide) ?_
      refine gw_put (C := RJ24) (T := TJ24) (N := 3) (ty := .int) (v := .int 0) hx hb hts in_J24 tyJ24 tyJ24_ok nmJ24 (hts _ q974) hown hal hB hS (by have hsz := hS.1; (try dsimp only [gfr]) <;> omega) 1 (by decide) (hts _ q980) (fun _ h9 => h9) rfl (by decide +kernel) (rfl) (rfl) (Nat.le_of_ble_eq_true rfl) dJ24_divideOneWord_68 (fun H_23 locs h_new hch hS => ?_)
      have hO := hO.ch hch (by omega)
      have hA := hA.ch hch (by omega)
      have hQ := hQ.ch hch (by omega)
      have sz_H_23 := hch.1
      clear hch
      have hB : gO z true RJ24 TJ24 3 H_23 b [.ref vq, .int 0, .int 0] := h_new
      refine lv_aload_n hx hb dJ24_divideOneWord_71 rfl (lv_at hl 6 rfl) ?_
      refine lv_iconst (v := 0) hx hb dJ24_divideOneWord_72 (by decide) ?_
      refine gw_put (C := RJ24) (T := TJ24) (N := 3) (ty := .int) (v := .int 0) hx hb hts in_J24 tyJ24 tyJ24_ok nmJ24 (hts _ q974) hown hal hB hS (by have hsz := hS.1; (try dsimp only [gfr]) <;> omega) 2 (by decide) (hts _ q981) (fun _ h9 => h9) rfl (by decide +kernel) (rfl) (rfl) (Nat.le_of_ble_eq_true rfl) dJ24_divideOneWord_73 (fun H_24 locs h_new hch hS => ?_)
      have hO := hO.ch hch (by omega)
      have hA := hA.ch hch (by omega)
      have hQ := hQ.ch hch (by omega)
      have sz_H_24 := hch.1
      clear hch
      have hB : gO z true RJ24 TJ24 3 H_24 b [.ref vq, .int 0, .int 0] := h_new
      refine lv_iload hx hb dJ24_divideOneWord_76 (lv_at hl 0 rfl) ?_
      refine g_iret hx hb hr hlocks hS (by first | omega | (dsimp only; omega)) (by first | omega | (dsimp only; omega)) ?_ dJ24_divideOneWord_78
      have hn1 : n = 1 := by omega
      subst hn1
      rw [show seg d 0 1 = d 0 by rw [seg_r, seg_z, Nat.zero_mul, Nat.zero_add]]
      refine ⟨vq, 0, 0, 1, _, bd_20, by decide, by decide, ?_, ?_, Or.inl rfl, hB, hQ⟩
      · rw [seg_z]
        exact c_60.symm
      · exact Or.inl ⟨rfl, rfl⟩
