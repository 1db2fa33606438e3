/-! ## walks (written by tools) -/
set_option maxRecDepth 100000
def dkwJ24_getMagnitudeArray_2 : List UInt8 := [42, 3, 181, 0, 11, 42, 43, 190, 181, 0, 21, 42, 43, 181, 0, 17, 42, 180, 0, 17, 176]
abbrev dktJ24_getMagnitudeArray_2 : List UInt8 := dkwJ24_getMagnitudeArray_2 ++ []
def dkwJ24_getMagnitudeArray_1 : List UInt8 := [180, 0, 11, 42, 180, 0, 11, 42, 180, 0, 21, 96, 184, 0, 33, 76, 42, 180, 0, 17, 3, 184, 0, 37]
abbrev dktJ24_getMagnitudeArray_1 : List UInt8 := dkwJ24_getMagnitudeArray_1 ++ dktJ24_getMagnitudeArray_2
def dkwJ24_getMagnitudeArray_0 : List UInt8 := [42, 180, 0, 11, 157, 0, 15, 42, 180, 0, 17, 190, 42, 180, 0, 21, 159, 0, 48, 42, 180, 0, 17, 42]
abbrev dktJ24_getMagnitudeArray_0 : List UInt8 := dkwJ24_getMagnitudeArray_0 ++ dktJ24_getMagnitudeArray_1
theorem dksJ24_getMagnitudeArray_0 : cJ24_getMagnitudeArray.data.toList.drop 0 = dktJ24_getMagnitudeArray_0 := by decide +kernel
theorem dksJ24_getMagnitudeArray_1 : cJ24_getMagnitudeArray.data.toList.drop 24 = dktJ24_getMagnitudeArray_1 := dk_seg dksJ24_getMagnitudeArray_0 24 rfl rfl
theorem dksJ24_getMagnitudeArray_2 : cJ24_getMagnitudeArray.data.toList.drop 48 = dktJ24_getMagnitudeArray_2 := dk_seg dksJ24_getMagnitudeArray_1 24 rfl rfl
theorem dJ24_getMagnitudeArray_0 : decode cJ24_getMagnitudeArray 0 = .ok (.aload_n 0, 1) := dk_42 (dk_at dksJ24_getMagnitudeArray_0 0 rfl rfl)
theorem dJ24_getMagnitudeArray_1 : decode cJ24_getMagnitudeArray 1 = .ok (.getfield 11, 3) := dk_180 0 11 (dk_at dksJ24_getMagnitudeArray_0 1 rfl rfl)
theorem dJ24_getMagnitudeArray_4 : decode cJ24_getMagnitudeArray 4 = .ok (.ifCond .gt 15, 3) := dk_157 0 15 (dk_at dksJ24_getMagnitudeArray_0 4 rfl rfl)
theorem dJ24_getMagnitudeArray_7 : decode cJ24_getMagnitudeArray 7 = .ok (.aload_n 0, 1) := dk_42 (dk_at dksJ24_getMagnitudeArray_0 7 rfl rfl)
theorem dJ24_getMagnitudeArray_8 : decode cJ24_getMagnitudeArray 8 = .ok (.getfield 17, 3) := dk_180 0 17 (dk_at dksJ24_getMagnitudeArray_0 8 rfl rfl)
theorem dJ24_getMagnitudeArray_11 : decode cJ24_getMagnitudeArray 11 = .ok (.arraylength, 1) := dk_190 (dk_at dksJ24_getMagnitudeArray_0 11 rfl rfl)
theorem dJ24_getMagnitudeArray_12 : decode cJ24_getMagnitudeArray 12 = .ok (.aload_n 0, 1) := dk_42 (dk_at dksJ24_getMagnitudeArray_0 12 rfl rfl)
theorem dJ24_getMagnitudeArray_13 : decode cJ24_getMagnitudeArray 13 = .ok (.getfield 21, 3) := dk_180 0 21 (dk_at dksJ24_getMagnitudeArray_0 13 rfl rfl)
theorem dJ24_getMagnitudeArray_16 : decode cJ24_getMagnitudeArray 16 = .ok (.if_icmp .eq 48, 3) := dk_159 0 48 (dk_at dksJ24_getMagnitudeArray_0 16 rfl rfl)
theorem dJ24_getMagnitudeArray_19 : decode cJ24_getMagnitudeArray 19 = .ok (.aload_n 0, 1) := dk_42 (dk_at dksJ24_getMagnitudeArray_0 19 rfl rfl)
theorem dJ24_getMagnitudeArray_20 : decode cJ24_getMagnitudeArray 20 = .ok (.getfield 17, 3) := dk_180 0 17 (dk_at dksJ24_getMagnitudeArray_0 20 rfl rfl)
theorem dJ24_getMagnitudeArray_23 : decode cJ24_getMagnitudeArray 23 = .ok (.aload_n 0, 1) := dk_42 (dk_at dksJ24_getMagnitudeArray_0 23 rfl rfl)
theorem dJ24_getMagnitudeArray_24 : decode cJ24_getMagnitudeArray 24 = .ok (.getfield 11, 3) := dk_180 0 11 (dk_at dksJ24_getMagnitudeArray_1 0 rfl rfl)
theorem dJ24_getMagnitudeArray_27 : decode cJ24_getMagnitudeArray 27 = .ok (.aload_n 0, 1) := dk_42 (dk_at dksJ24_getMagnitudeArray_1 3 rfl rfl)
theorem dJ24_getMagnitudeArray_28 : decode cJ24_getMagnitudeArray 28 = .ok (.getfield 11, 3) := dk_180 0 11 (dk_at dksJ24_getMagnitudeArray_1 4 rfl rfl)
theorem dJ24_getMagnitudeArray_31 : decode cJ24_getMagnitudeArray 31 = .ok (.aload_n 0, 1) := dk_42 (dk_at dksJ24_getMagnitudeArray_1 7 rfl rfl)
theorem dJ24_getMagnitudeArray_32 : decode cJ24_getMagnitudeArray 32 = .ok (.getfield 21, 3) := dk_180 0 21 (dk_at dksJ24_getMagnitudeArray_1 8 rfl rfl)
theorem dJ24_getMagnitudeArray_35 : decode cJ24_getMagnitudeArray 35 = .ok (.iadd, 1) := dk_96 (dk_at dksJ24_getMagnitudeArray_1 11 rfl rfl)
theorem dJ24_getMagnitudeArray_36 : decode cJ24_getMagnitudeArray 36 = .ok (.invokestatic 33, 3) := dk_184 0 33 (dk_at dksJ24_getMagnitudeArray_1 12 rfl rfl)
theorem dJ24_getMagnitudeArray_39 : decode cJ24_getMagnitudeArray 39 = .ok (.astore_n 1, 1) := dk_76 (dk_at dksJ24_getMagnitudeArray_1 15 rfl rfl)
theorem dJ24_getMagnitudeArray_40 : decode cJ24_getMagnitudeArray 40 = .ok (.aload_n 0, 1) := dk_42 (dk_at dksJ24_getMagnitudeArray_1 16 rfl rfl)
theorem dJ24_getMagnitudeArray_41 : decode cJ24_getMagnitudeArray 41 = .ok (.getfield 17, 3) := dk_180 0 17 (dk_at dksJ24_getMagnitudeArray_1 17 rfl rfl)
theorem dJ24_getMagnitudeArray_44 : decode cJ24_getMagnitudeArray 44 = .ok (.iconst 0, 1) := dk_3 (dk_at dksJ24_getMagnitudeArray_1 20 rfl rfl)
theorem dJ24_getMagnitudeArray_45 : decode cJ24_getMagnitudeArray 45 = .ok (.invokestatic 37, 3) := dk_184 0 37 (dk_at dksJ24_getMagnitudeArray_1 21 rfl rfl)
theorem dJ24_getMagnitudeArray_48 : decode cJ24_getMagnitudeArray 48 = .ok (.aload_n 0, 1) := dk_42 (dk_at dksJ24_getMagnitudeArray_2 0 rfl rfl)
theorem dJ24_getMagnitudeArray_49 : decode cJ24_getMagnitudeArray 49 = .ok (.iconst 0, 1) := dk_3 (dk_at dksJ24_getMagnitudeArray_2 1 rfl rfl)
theorem dJ24_getMagnitudeArray_50 : decode cJ24_getMagnitudeArray 50 = .ok (.putfield 11, 3) := dk_181 0 11 (dk_at dksJ24_getMagnitudeArray_2 2 rfl rfl)
theorem dJ24_getMagnitudeArray_53 : decode cJ24_getMagnitudeArray 53 = .ok (.aload_n 0, 1) := dk_42 (dk_at dksJ24_getMagnitudeArray_2 5 rfl rfl)
theorem dJ24_getMagnitudeArray_54 : decode cJ24_getMagnitudeArray 54 = .ok (.aload_n 1, 1) := dk_43 (dk_at dksJ24_getMagnitudeArray_2 6 rfl rfl)
theorem dJ24_getMagnitudeArray_55 : decode cJ24_getMagnitudeArray 55 = .ok (.arraylength, 1) := dk_190 (dk_at dksJ24_getMagnitudeArray_2 7 rfl rfl)
theorem dJ24_getMagnitudeArray_56 : decode cJ24_getMagnitudeArray 56 = .ok (.putfield 21, 3) := dk_181 0 21 (dk_at dksJ24_getMagnitudeArray_2 8 rfl rfl)
theorem dJ24_getMagnitudeArray_59 : decode cJ24_getMagnitudeArray 59 = .ok (.aload_n 0, 1) := dk_42 (dk_at dksJ24_getMagnitudeArray_2 11 rfl rfl)
theorem dJ24_getMagnitudeArray_60 : decode cJ24_getMagnitudeArray 60 = .ok (.aload_n 1, 1) := dk_43 (dk_at dksJ24_getMagnitudeArray_2 12 rfl rfl)
theorem dJ24_getMagnitudeArray_61 : decode cJ24_getMagnitudeArray 61 = .ok (.putfield 17, 3) := dk_181 0 17 (dk_at dksJ24_getMagnitudeArray_2 13 rfl rfl)
theorem dJ24_getMagnitudeArray_64 : decode cJ24_getMagnitudeArray 64 = .ok (.aload_n 0, 1) := dk_42 (dk_at dksJ24_getMagnitudeArray_2 16 rfl rfl)
theorem dJ24_getMagnitudeArray_65 : decode cJ24_getMagnitudeArray 65 = .ok (.getfield 17, 3) := dk_180 0 17 (dk_at dksJ24_getMagnitudeArray_2 17 rfl rfl)
theorem dJ24_getMagnitudeArray_68 : decode cJ24_getMagnitudeArray 68 = .ok (.areturn, 1) := dk_176 (dk_at dksJ24_getMagnitudeArray_2 20 rfl rfl)
def dkwJ24_toBigInteger_1 : List UInt8 := [183, 0, 62, 176]
abbrev dktJ24_toBigInteger_1 : List UInt8 := dkwJ24_toBigInteger_1 ++ []
def dkwJ24_toBigInteger_0 : List UInt8 := [42, 180, 0, 21, 153, 0, 7, 27, 154, 0, 7, 178, 0, 54, 176, 187, 0, 1, 89, 42, 182, 0, 58, 27]
abbrev dktJ24_toBigInteger_0 : List UInt8 := dkwJ24_toBigInteger_0 ++ dktJ24_toBigInteger_1
theorem dksJ24_toBigInteger_0 : cJ24_toBigInteger.data.toList.drop 0 = dktJ24_toBigInteger_0 := by decide +kernel
theorem dksJ24_toBigInteger_1 : cJ24_toBigInteger.data.toList.drop 24 = dktJ24_toBigInteger_1 := dk_seg dksJ24_toBigInteger_0 24 rfl rfl
theorem dJ24_toBigInteger_0 : decode cJ24_toBigInteger 0 = .ok (.aload_n 0, 1) := dk_42 (dk_at dksJ24_toBigInteger_0 0 rfl rfl)
theorem dJ24_toBigInteger_1 : decode cJ24_toBigInteger 1 = .ok (.getfield 21, 3) := dk_180 0 21 (dk_at dksJ24_toBigInteger_0 1 rfl rfl)
theorem dJ24_toBigInteger_4 : decode cJ24_toBigInteger 4 = .ok (.ifCond .eq 7, 3) := dk_153 0 7 (dk_at dksJ24_toBigInteger_0 4 rfl rfl)
theorem dJ24_toBigInteger_7 : decode cJ24_toBigInteger 7 = .ok (.iload_n 1, 1) := dk_27 (dk_at dksJ24_toBigInteger_0 7 rfl rfl)
theorem dJ24_toBigInteger_8 : decode cJ24_toBigInteger 8 = .ok (.ifCond .ne 7, 3) := dk_154 0 7 (dk_at dksJ24_toBigInteger_0 8 rfl rfl)
theorem dJ24_toBigInteger_11 : decode cJ24_toBigInteger 11 = .ok (.getstatic 54, 3) := dk_178 0 54 (dk_at dksJ24_toBigInteger_0 11 rfl rfl)
theorem dJ24_toBigInteger_14 : decode cJ24_toBigInteger 14 = .ok (.areturn, 1) := dk_176 (dk_at dksJ24_toBigInteger_0 14 rfl rfl)
theorem dJ24_toBigInteger_15 : decode cJ24_toBigInteger 15 = .ok (.new 1, 3) := dk_187 0 1 (dk_at dksJ24_toBigInteger_0 15 rfl rfl)
theorem dJ24_toBigInteger_18 : decode cJ24_toBigInteger 18 = .ok (.dup, 1) := dk_89 (dk_at dksJ24_toBigInteger_0 18 rfl rfl)
theorem dJ24_toBigInteger_19 : decode cJ24_toBigInteger 19 = .ok (.aload_n 0, 1) := dk_42 (dk_at dksJ24_toBigInteger_0 19 rfl rfl)
theorem dJ24_toBigInteger_20 : decode cJ24_toBigInteger 20 = .ok (.invokevirtual 58, 3) := dk_182 0 58 (dk_at dksJ24_toBigInteger_0 20 rfl rfl)
theorem dJ24_toBigInteger_23 : decode cJ24_toBigInteger 23 = .ok (.iload_n 1, 1) := dk_27 (dk_at dksJ24_toBigInteger_0 23 rfl rfl)
theorem dJ24_toBigInteger_24 : decode cJ24_toBigInteger 24 = .ok (.invokespecial 62, 3) := dk_183 0 62 (dk_at dksJ24_toBigInteger_1 0 rfl rfl)
theorem dJ24_toBigInteger_27 : decode cJ24_toBigInteger 27 = .ok (.areturn, 1) := dk_176 (dk_at dksJ24_toBigInteger_1 3 rfl rfl)
def dkwJ24_getLowestSetBit_3 : List UInt8 := [184, 0, 89, 96, 172]
abbrev dktJ24_getLowestSetBit_3 : List UInt8 := dkwJ24_getLowestSetBit_3 ++ []
def dkwJ24_getLowestSetBit_2 : List UInt8 := [180, 0, 11, 96, 46, 61, 28, 154, 0, 5, 2, 172, 42, 180, 0, 21, 4, 100, 27, 100, 8, 120, 28]
abbrev dktJ24_getLowestSetBit_2 : List UInt8 := dkwJ24_getLowestSetBit_2 ++ dktJ24_getLowestSetBit_3
def dkwJ24_getLowestSetBit_1 : List UInt8 := [27, 42, 180, 0, 11, 96, 46, 154, 0, 9, 132, 1, 255, 167, 255, 235, 42, 180, 0, 17, 27, 42]
abbrev dktJ24_getLowestSetBit_1 : List UInt8 := dkwJ24_getLowestSetBit_1 ++ dktJ24_getLowestSetBit_2
def dkwJ24_getLowestSetBit_0 : List UInt8 := [42, 180, 0, 21, 154, 0, 5, 2, 172, 42, 180, 0, 21, 4, 100, 60, 27, 158, 0, 23, 42, 180, 0, 17]
abbrev dktJ24_getLowestSetBit_0 : List UInt8 := dkwJ24_getLowestSetBit_0 ++ dktJ24_getLowestSetBit_1
theorem dksJ24_getLowestSetBit_0 : cJ24_getLowestSetBit.data.toList.drop 0 = dktJ24_getLowestSetBit_0 := by decide +kernel
theorem dksJ24_getLowestSetBit_1 : cJ24_getLowestSetBit.data.toList.drop 24 = dktJ24_getLowestSetBit_1 := dk_seg dksJ24_getLowestSetBit_0 24 rfl rfl
theorem dksJ24_getLowestSetBit_2 : cJ24_getLowestSetBit.data.toList.drop 46 = dktJ24_getLowestSetBit_2 := dk_seg dksJ24_getLowestSetBit_1 22 rfl rfl
theorem dksJ24_getLowestSetBit_3 : cJ24_getLowestSetBit.data.toList.drop 69 = dktJ24_getLowestSetBit_3 := dk_seg dksJ24_getLowestSetBit_2 23 rfl rfl
theorem dJ24_getLowestSetBit_0 : decode cJ24_getLowestSetBit 0 = .ok (.aload_n 0, 1) := dk_42 (dk_at dksJ24_getLowestSetBit_0 0 rfl rfl)
theorem dJ24_getLowestSetBit_1 : decode cJ24_getLowestSetBit 1 = .ok (.getfield 21, 3) := dk_180 0 21 (dk_at dksJ24_getLowestSetBit_0 1 rfl rfl)
theorem dJ24_getLowestSetBit_4 : decode cJ24_getLowestSetBit 4 = .ok (.ifCond .ne 5, 3) := dk_154 0 5 (dk_at dksJ24_getLowestSetBit_0 4 rfl rfl)
theorem dJ24_getLowestSetBit_7 : decode cJ24_getLowestSetBit 7 = .ok (.iconst (-1), 1) := dk_2 (dk_at dksJ24_getLowestSetBit_0 7 rfl rfl)
theorem dJ24_getLowestSetBit_8 : decode cJ24_getLowestSetBit 8 = .ok (.ireturn, 1) := dk_172 (dk_at dksJ24_getLowestSetBit_0 8 rfl rfl)
theorem dJ24_getLowestSetBit_9 : decode cJ24_getLowestSetBit 9 = .ok (.aload_n 0, 1) := dk_42 (dk_at dksJ24_getLowestSetBit_0 9 rfl rfl)
theorem dJ24_getLowestSetBit_10 : decode cJ24_getLowestSetBit 10 = .ok (.getfield 21, 3) := dk_180 0 21 (dk_at dksJ24_getLowestSetBit_0 10 rfl rfl)
theorem dJ24_getLowestSetBit_13 : decode cJ24_getLowestSetBit 13 = .ok (.iconst 1, 1) := dk_4 (dk_at dksJ24_getLowestSetBit_0 13 rfl rfl)
theorem dJ24_getLowestSetBit_14 : decode cJ24_getLowestSetBit 14 = .ok (.isub, 1) := dk_100 (dk_at dksJ24_getLowestSetBit_0 14 rfl rfl)
theorem dJ24_getLowestSetBit_15 : decode cJ24_getLowestSetBit 15 = .ok (.istore_n 1, 1) := dk_60 (dk_at dksJ24_getLowestSetBit_0 15 rfl rfl)
theorem dJ24_getLowestSetBit_16 : decode cJ24_getLowestSetBit 16 = .ok (.iload_n 1, 1) := dk_27 (dk_at dksJ24_getLowestSetBit_0 16 rfl rfl)
theorem dJ24_getLowestSetBit_17 : decode cJ24_getLowestSetBit 17 = .ok (.ifCond .le 23, 3) := dk_158 0 23 (dk_at dksJ24_getLowestSetBit_0 17 rfl rfl)
theorem dJ24_getLowestSetBit_20 : decode cJ24_getLowestSetBit 20 = .ok (.aload_n 0, 1) := dk_42 (dk_at dksJ24_getLowestSetBit_0 20 rfl rfl)
theorem dJ24_getLowestSetBit_21 : decode cJ24_getLowestSetBit 21 = .ok (.getfield 17, 3) := dk_180 0 17 (dk_at dksJ24_getLowestSetBit_0 21 rfl rfl)
theorem dJ24_getLowestSetBit_24 : decode cJ24_getLowestSetBit 24 = .ok (.iload_n 1, 1) := dk_27 (dk_at dksJ24_getLowestSetBit_1 0 rfl rfl)
theorem dJ24_getLowestSetBit_25 : decode cJ24_getLowestSetBit 25 = .ok (.aload_n 0, 1) := dk_42 (dk_at dksJ24_getLowestSetBit_1 1 rfl rfl)
theorem dJ24_getLowestSetBit_26 : decode cJ24_getLowestSetBit 26 = .ok (.getfield 11, 3) := dk_180 0 11 (dk_at dksJ24_getLowestSetBit_1 2 rfl rfl)
theorem dJ24_getLowestSetBit_29 : decode cJ24_getLowestSetBit 29 = .ok (.iadd, 1) := dk_96 (dk_at dksJ24_getLowestSetBit_1 5 rfl rfl)
theorem dJ24_getLowestSetBit_30 : decode cJ24_getLowestSetBit 30 = .ok (.iaload, 1) := dk_46 (dk_at dksJ24_getLowestSetBit_1 6 rfl rfl)
theorem dJ24_getLowestSetBit_31 : decode cJ24_getLowestSetBit 31 = .ok (.ifCond .ne 9, 3) := dk_154 0 9 (dk_at dksJ24_getLowestSetBit_1 7 rfl rfl)
theorem dJ24_getLowestSetBit_34 : decode cJ24_getLowestSetBit 34 = .ok (.iinc 1 (-1), 3) := dk_132 1 255 (dk_at dksJ24_getLowestSetBit_1 10 rfl rfl)
theorem dJ24_getLowestSetBit_37 : decode cJ24_getLowestSetBit 37 = .ok (.goto (-21), 3) := dk_167 255 235 (dk_at dksJ24_getLowestSetBit_1 13 rfl rfl)
theorem dJ24_getLowestSetBit_40 : decode cJ24_getLowestSetBit 40 = .ok (.aload_n 0, 1) := dk_42 (dk_at dksJ24_getLowestSetBit_1 16 rfl rfl)
theorem dJ24_getLowestSetBit_41 : decode cJ24_getLowestSetBit 41 = .ok (.getfield 17, 3) := dk_180 0 17 (dk_at dksJ24_getLowestSetBit_1 17 rfl rfl)
theorem dJ24_getLowestSetBit_44 : decode cJ24_getLowestSetBit 44 = .ok (.iload_n 1, 1) := dk_27 (dk_at dksJ24_getLowestSetBit_1 20 rfl rfl)
theorem dJ24_getLowestSetBit_45 : decode cJ24_getLowestSetBit 45 = .ok (.aload_n 0, 1) := dk_42 (dk_at dksJ24_getLowestSetBit_1 21 rfl rfl)
theorem dJ24_getLowestSetBit_46 : decode cJ24_getLowestSetBit 46 = .ok (.getfield 11, 3) := dk_180 0 11 (dk_at dksJ24_getLowestSetBit_2 0 rfl rfl)
theorem dJ24_getLowestSetBit_49 : decode cJ24_getLowestSetBit 49 = .ok (.iadd, 1) := dk_96 (dk_at dksJ24_getLowestSetBit_2 3 rfl rfl)
theorem dJ24_getLowestSetBit_50 : decode cJ24_getLowestSetBit 50 = .ok (.iaload, 1) := dk_46 (dk_at dksJ24_getLowestSetBit_2 4 rfl rfl)
theorem dJ24_getLowestSetBit_51 : decode cJ24_getLowestSetBit 51 = .ok (.istore_n 2, 1) := dk_61 (dk_at dksJ24_getLowestSetBit_2 5 rfl rfl)
theorem dJ24_getLowestSetBit_52 : decode cJ24_getLowestSetBit 52 = .ok (.iload_n 2, 1) := dk_28 (dk_at dksJ24_getLowestSetBit_2 6 rfl rfl)
theorem dJ24_getLowestSetBit_53 : decode cJ24_getLowestSetBit 53 = .ok (.ifCond .ne 5, 3) := dk_154 0 5 (dk_at dksJ24_getLowestSetBit_2 7 rfl rfl)
theorem dJ24_getLowestSetBit_56 : decode cJ24_getLowestSetBit 56 = .ok (.iconst (-1), 1) := dk_2 (dk_at dksJ24_getLowestSetBit_2 10 rfl rfl)
theorem dJ24_getLowestSetBit_57 : decode cJ24_getLowestSetBit 57 = .ok (.ireturn, 1) := dk_172 (dk_at dksJ24_getLowestSetBit_2 11 rfl rfl)
theorem dJ24_getLowestSetBit_58 : decode cJ24_getLowestSetBit 58 = .ok (.aload_n 0, 1) := dk_42 (dk_at dksJ24_getLowestSetBit_2 12 rfl rfl)
theorem dJ24_getLowestSetBit_59 : decode cJ24_getLowestSetBit 59 = .ok (.getfield 21, 3) := dk_180 0 21 (dk_at dksJ24_getLowestSetBit_2 13 rfl rfl)
theorem dJ24_getLowestSetBit_62 : decode cJ24_getLowestSetBit 62 = .ok (.iconst 1, 1) := dk_4 (dk_at dksJ24_getLowestSetBit_2 16 rfl rfl)
theorem dJ24_getLowestSetBit_63 : decode cJ24_getLowestSetBit 63 = .ok (.isub, 1) := dk_100 (dk_at dksJ24_getLowestSetBit_2 17 rfl rfl)
theorem dJ24_getLowestSetBit_64 : decode cJ24_getLowestSetBit 64 = .ok (.iload_n 1, 1) := dk_27 (dk_at dksJ24_getLowestSetBit_2 18 rfl rfl)
theorem dJ24_getLowestSetBit_65 : decode cJ24_getLowestSetBit 65 = .ok (.isub, 1) := dk_100 (dk_at dksJ24_getLowestSetBit_2 19 rfl rfl)
theorem dJ24_getLowestSetBit_66 : decode cJ24_getLowestSetBit 66 = .ok (.iconst 5, 1) := dk_8 (dk_at dksJ24_getLowestSetBit_2 20 rfl rfl)
theorem dJ24_getLowestSetBit_67 : decode cJ24_getLowestSetBit 67 = .ok (.ishl, 1) := dk_120 (dk_at dksJ24_getLowestSetBit_2 21 rfl rfl)
theorem dJ24_getLowestSetBit_68 : decode cJ24_getLowestSetBit 68 = .ok (.iload_n 2, 1) := dk_28 (dk_at dksJ24_getLowestSetBit_2 22 rfl rfl)
theorem dJ24_getLowestSetBit_69 : decode cJ24_getLowestSetBit 69 = .ok (.invokestatic 89, 3) := dk_184 0 89 (dk_at dksJ24_getLowestSetBit_3 0 rfl rfl)
theorem dJ24_getLowestSetBit_72 : decode cJ24_getLowestSetBit 72 = .ok (.iadd, 1) := dk_96 (dk_at dksJ24_getLowestSetBit_3 3 rfl rfl)
theorem dJ24_getLowestSetBit_73 : decode cJ24_getLowestSetBit 73 = .ok (.ireturn, 1) := dk_172 (dk_at dksJ24_getLowestSetBit_3 4 rfl rfl)
def dkwJ24_init_3_1 : List UInt8 := [180, 0, 11, 43, 180, 0, 11, 42, 180, 0, 21, 96, 184, 0, 33, 181, 0, 17, 177]
abbrev dktJ24_init_3_1 : List UInt8 := dkwJ24_init_3_1 ++ []
def dkwJ24_init_3_0 : List UInt8 := [42, 183, 0, 5, 42, 3, 181, 0, 11, 42, 43, 180, 0, 21, 181, 0, 21, 42, 43, 180, 0, 17, 43]
abbrev dktJ24_init_3_0 : List UInt8 := dkwJ24_init_3_0 ++ dktJ24_init_3_1
theorem dksJ24_init_3_0 : cJ24_init_3.data.toList.drop 0 = dktJ24_init_3_0 := by decide +kernel
theorem dksJ24_init_3_1 : cJ24_init_3.data.toList.drop 23 = dktJ24_init_3_1 := dk_seg dksJ24_init_3_0 23 rfl rfl
theorem dJ24_init_3_0 : decode cJ24_init_3 0 = .ok (.aload_n 0, 1) := dk_42 (dk_at dksJ24_init_3_0 0 rfl rfl)
theorem dJ24_init_3_1 : decode cJ24_init_3 1 = .ok (.invokespecial 5, 3) := dk_183 0 5 (dk_at dksJ24_init_3_0 1 rfl rfl)
theorem dJ24_init_3_4 : decode cJ24_init_3 4 = .ok (.aload_n 0, 1) := dk_42 (dk_at dksJ24_init_3_0 4 rfl rfl)
theorem dJ24_init_3_5 : decode cJ24_init_3 5 = .ok (.iconst 0, 1) := dk_3 (dk_at dksJ24_init_3_0 5 rfl rfl)
theorem dJ24_init_3_6 : decode cJ24_init_3 6 = .ok (.putfield 11, 3) := dk_181 0 11 (dk_at dksJ24_init_3_0 6 rfl rfl)
theorem dJ24_init_3_9 : decode cJ24_init_3 9 = .ok (.aload_n 0, 1) := dk_42 (dk_at dksJ24_init_3_0 9 rfl rfl)
theorem dJ24_init_3_10 : decode cJ24_init_3 10 = .ok (.aload_n 1, 1) := dk_43 (dk_at dksJ24_init_3_0 10 rfl rfl)
theorem dJ24_init_3_11 : decode cJ24_init_3 11 = .ok (.getfield 21, 3) := dk_180 0 21 (dk_at dksJ24_init_3_0 11 rfl rfl)
theorem dJ24_init_3_14 : decode cJ24_init_3 14 = .ok (.putfield 21, 3) := dk_181 0 21 (dk_at dksJ24_init_3_0 14 rfl rfl)
theorem dJ24_init_3_17 : decode cJ24_init_3 17 = .ok (.aload_n 0, 1) := dk_42 (dk_at dksJ24_init_3_0 17 rfl rfl)
theorem dJ24_init_3_18 : decode cJ24_init_3 18 = .ok (.aload_n 1, 1) := dk_43 (dk_at dksJ24_init_3_0 18 rfl rfl)
theorem dJ24_init_3_19 : decode cJ24_init_3 19 = .ok (.getfield 17, 3) := dk_180 0 17 (dk_at dksJ24_init_3_0 19 rfl rfl)
theorem dJ24_init_3_22 : decode cJ24_init_3 22 = .ok (.aload_n 1, 1) := dk_43 (dk_at dksJ24_init_3_0 22 rfl rfl)
theorem dJ24_init_3_23 : decode cJ24_init_3 23 = .ok (.getfield 11, 3) := dk_180 0 11 (dk_at dksJ24_init_3_1 0 rfl rfl)
theorem dJ24_init_3_26 : decode cJ24_init_3 26 = .ok (.aload_n 1, 1) := dk_43 (dk_at dksJ24_init_3_1 3 rfl rfl)
theorem dJ24_init_3_27 : decode cJ24_init_3 27 = .ok (.getfield 11, 3) := dk_180 0 11 (dk_at dksJ24_init_3_1 4 rfl rfl)
theorem dJ24_init_3_30 : decode cJ24_init_3 30 = .ok (.aload_n 0, 1) := dk_42 (dk_at dksJ24_init_3_1 7 rfl rfl)
theorem dJ24_init_3_31 : decode cJ24_init_3 31 = .ok (.getfield 21, 3) := dk_180 0 21 (dk_at dksJ24_init_3_1 8 rfl rfl)
theorem dJ24_init_3_34 : decode cJ24_init_3 34 = .ok (.iadd, 1) := dk_96 (dk_at dksJ24_init_3_1 11 rfl rfl)
theorem dJ24_init_3_35 : decode cJ24_init_3 35 = .ok (.invokestatic 33, 3) := dk_184 0 33 (dk_at dksJ24_init_3_1 12 rfl rfl)
theorem dJ24_init_3_38 : decode cJ24_init_3 38 = .ok (.putfield 17, 3) := dk_181 0 17 (dk_at dksJ24_init_3_1 15 rfl rfl)
theorem dJ24_init_3_41 : decode cJ24_init_3 41 = .ok (.return_, 1) := dk_177 (dk_at dksJ24_init_3_1 18 rfl rfl)
def dkwJ24_primitiveLeftShift_3 : List UInt8 := [42, 180, 0, 11, 42, 180, 0, 21, 96, 4, 100, 92, 46, 27, 120, 79, 177]
abbrev dktJ24_primitiveLeftShift_3 : List UInt8 := dkwJ24_primitiveLeftShift_3 ++ []
def dkwJ24_primitiveLeftShift_2 : List UInt8 := [96, 46, 54, 5, 44, 21, 4, 21, 7, 27, 120, 21, 5, 29, 124, 128, 79, 132, 4, 1, 167, 255, 221, 44]
abbrev dktJ24_primitiveLeftShift_2 : List UInt8 := dkwJ24_primitiveLeftShift_2 ++ dktJ24_primitiveLeftShift_3
def dkwJ24_primitiveLeftShift_1 : List UInt8 := [42, 180, 0, 21, 96, 4, 100, 54, 6, 21, 4, 21, 6, 162, 0, 34, 21, 5, 54, 7, 44, 21, 4, 4]
abbrev dktJ24_primitiveLeftShift_1 : List UInt8 := dkwJ24_primitiveLeftShift_1 ++ dktJ24_primitiveLeftShift_2
def dkwJ24_primitiveLeftShift_0 : List UInt8 := [42, 180, 0, 17, 77, 16, 32, 27, 100, 62, 42, 180, 0, 11, 54, 4, 44, 21, 4, 46, 54, 5, 21, 4]
abbrev dktJ24_primitiveLeftShift_0 : List UInt8 := dkwJ24_primitiveLeftShift_0 ++ dktJ24_primitiveLeftShift_1
theorem dksJ24_primitiveLeftShift_0 : cJ24_primitiveLeftShift.data.toList.drop 0 = dktJ24_primitiveLeftShift_0 := by decide +kernel
theorem dksJ24_primitiveLeftShift_1 : cJ24_primitiveLeftShift.data.toList.drop 24 = dktJ24_primitiveLeftShift_1 := dk_seg dksJ24_primitiveLeftShift_0 24 rfl rfl
theorem dksJ24_primitiveLeftShift_2 : cJ24_primitiveLeftShift.data.toList.drop 48 = dktJ24_primitiveLeftShift_2 := dk_seg dksJ24_primitiveLeftShift_1 24 rfl rfl
theorem dksJ24_primitiveLeftShift_3 : cJ24_primitiveLeftShift.data.toList.drop 72 = dktJ24_primitiveLeftShift_3 := dk_seg dksJ24_primitiveLeftShift_2 24 rfl rfl
theorem dJ24_primitiveLeftShift_0 : decode cJ24_primitiveLeftShift 0 = .ok (.aload_n 0, 1) := dk_42 (dk_at dksJ24_primitiveLeftShift_0 0 rfl rfl)
theorem dJ24_primitiveLeftShift_1 : decode cJ24_primitiveLeftShift 1 = .ok (.getfield 17, 3) := dk_180 0 17 (dk_at dksJ24_primitiveLeftShift_0 1 rfl rfl)
theorem dJ24_primitiveLeftShift_4 : decode cJ24_primitiveLeftShift 4 = .ok (.astore_n 2, 1) := dk_77 (dk_at dksJ24_primitiveLeftShift_0 4 rfl rfl)
theorem dJ24_primitiveLeftShift_5 : decode cJ24_primitiveLeftShift 5 = .ok (.bipush 32, 2) := dk_16 32 (dk_at dksJ24_primitiveLeftShift_0 5 rfl rfl)
theorem dJ24_primitiveLeftShift_7 : decode cJ24_primitiveLeftShift 7 = .ok (.iload_n 1, 1) := dk_27 (dk_at dksJ24_primitiveLeftShift_0 7 rfl rfl)
theorem dJ24_primitiveLeftShift_8 : decode cJ24_primitiveLeftShift 8 = .ok (.isub, 1) := dk_100 (dk_at dksJ24_primitiveLeftShift_0 8 rfl rfl)
theorem dJ24_primitiveLeftShift_9 : decode cJ24_primitiveLeftShift 9 = .ok (.istore_n 3, 1) := dk_62 (dk_at dksJ24_primitiveLeftShift_0 9 rfl rfl)
theorem dJ24_primitiveLeftShift_10 : decode cJ24_primitiveLeftShift 10 = .ok (.aload_n 0, 1) := dk_42 (dk_at dksJ24_primitiveLeftShift_0 10 rfl rfl)
theorem dJ24_primitiveLeftShift_11 : decode cJ24_primitiveLeftShift 11 = .ok (.getfield 11, 3) := dk_180 0 11 (dk_at dksJ24_primitiveLeftShift_0 11 rfl rfl)
theorem dJ24_primitiveLeftShift_14 : decode cJ24_primitiveLeftShift 14 = .ok (.istore 4, 2) := dk_54 4 (dk_at dksJ24_primitiveLeftShift_0 14 rfl rfl)
theorem dJ24_primitiveLeftShift_16 : decode cJ24_primitiveLeftShift 16 = .ok (.aload_n 2, 1) := dk_44 (dk_at dksJ24_primitiveLeftShift_0 16 rfl rfl)
theorem dJ24_primitiveLeftShift_17 : decode cJ24_primitiveLeftShift 17 = .ok (.iload 4, 2) := dk_21 4 (dk_at dksJ24_primitiveLeftShift_0 17 rfl rfl)
theorem dJ24_primitiveLeftShift_19 : decode cJ24_primitiveLeftShift 19 = .ok (.iaload, 1) := dk_46 (dk_at dksJ24_primitiveLeftShift_0 19 rfl rfl)
theorem dJ24_primitiveLeftShift_20 : decode cJ24_primitiveLeftShift 20 = .ok (.istore 5, 2) := dk_54 5 (dk_at dksJ24_primitiveLeftShift_0 20 rfl rfl)
theorem dJ24_primitiveLeftShift_22 : decode cJ24_primitiveLeftShift 22 = .ok (.iload 4, 2) := dk_21 4 (dk_at dksJ24_primitiveLeftShift_0 22 rfl rfl)
theorem dJ24_primitiveLeftShift_24 : decode cJ24_primitiveLeftShift 24 = .ok (.aload_n 0, 1) := dk_42 (dk_at dksJ24_primitiveLeftShift_1 0 rfl rfl)
theorem dJ24_primitiveLeftShift_25 : decode cJ24_primitiveLeftShift 25 = .ok (.getfield 21, 3) := dk_180 0 21 (dk_at dksJ24_primitiveLeftShift_1 1 rfl rfl)
theorem dJ24_primitiveLeftShift_28 : decode cJ24_primitiveLeftShift 28 = .ok (.iadd, 1) := dk_96 (dk_at dksJ24_primitiveLeftShift_1 4 rfl rfl)
theorem dJ24_primitiveLeftShift_29 : decode cJ24_primitiveLeftShift 29 = .ok (.iconst 1, 1) := dk_4 (dk_at dksJ24_primitiveLeftShift_1 5 rfl rfl)
theorem dJ24_primitiveLeftShift_30 : decode cJ24_primitiveLeftShift 30 = .ok (.isub, 1) := dk_100 (dk_at dksJ24_primitiveLeftShift_1 6 rfl rfl)
theorem dJ24_primitiveLeftShift_31 : decode cJ24_primitiveLeftShift 31 = .ok (.istore 6, 2) := dk_54 6 (dk_at dksJ24_primitiveLeftShift_1 7 rfl rfl)
theorem dJ24_primitiveLeftShift_33 : decode cJ24_primitiveLeftShift 33 = .ok (.iload 4, 2) := dk_21 4 (dk_at dksJ24_primitiveLeftShift_1 9 rfl rfl)
theorem dJ24_primitiveLeftShift_35 : decode cJ24_primitiveLeftShift 35 = .ok (.iload 6, 2) := dk_21 6 (dk_at dksJ24_primitiveLeftShift_1 11 rfl rfl)
theorem dJ24_primitiveLeftShift_37 : decode cJ24_primitiveLeftShift 37 = .ok (.if_icmp .ge 34, 3) := dk_162 0 34 (dk_at dksJ24_primitiveLeftShift_1 13 rfl rfl)
theorem dJ24_primitiveLeftShift_40 : decode cJ24_primitiveLeftShift 40 = .ok (.iload 5, 2) := dk_21 5 (dk_at dksJ24_primitiveLeftShift_1 16 rfl rfl)
theorem dJ24_primitiveLeftShift_42 : decode cJ24_primitiveLeftShift 42 = .ok (.istore 7, 2) := dk_54 7 (dk_at dksJ24_primitiveLeftShift_1 18 rfl rfl)
theorem dJ24_primitiveLeftShift_44 : decode cJ24_primitiveLeftShift 44 = .ok (.aload_n 2, 1) := dk_44 (dk_at dksJ24_primitiveLeftShift_1 20 rfl rfl)
theorem dJ24_primitiveLeftShift_45 : decode cJ24_primitiveLeftShift 45 = .ok (.iload 4, 2) := dk_21 4 (dk_at dksJ24_primitiveLeftShift_1 21 rfl rfl)
theorem dJ24_primitiveLeftShift_47 : decode cJ24_primitiveLeftShift 47 = .ok (.iconst 1, 1) := dk_4 (dk_at dksJ24_primitiveLeftShift_1 23 rfl rfl)
theorem dJ24_primitiveLeftShift_48 : decode cJ24_primitiveLeftShift 48 = .ok (.iadd, 1) := dk_96 (dk_at dksJ24_primitiveLeftShift_2 0 rfl rfl)
theorem dJ24_primitiveLeftShift_49 : decode cJ24_primitiveLeftShift 49 = .ok (.iaload, 1) := dk_46 (dk_at dksJ24_primitiveLeftShift_2 1 rfl rfl)
theorem dJ24_primitiveLeftShift_50 : decode cJ24_primitiveLeftShift 50 = .ok (.istore 5, 2) := dk_54 5 (dk_at dksJ24_primitiveLeftShift_2 2 rfl rfl)
theorem dJ24_primitiveLeftShift_52 : decode cJ24_primitiveLeftShift 52 = .ok (.aload_n 2, 1) := dk_44 (dk_at dksJ24_primitiveLeftShift_2 4 rfl rfl)
theorem dJ24_primitiveLeftShift_53 : decode cJ24_primitiveLeftShift 53 = .ok (.iload 4, 2) := dk_21 4 (dk_at dksJ24_primitiveLeftShift_2 5 rfl rfl)
theorem dJ24_primitiveLeftShift_55 : decode cJ24_primitiveLeftShift 55 = .ok (.iload 7, 2) := dk_21 7 (dk_at dksJ24_primitiveLeftShift_2 7 rfl rfl)
theorem dJ24_primitiveLeftShift_57 : decode cJ24_primitiveLeftShift 57 = .ok (.iload_n 1, 1) := dk_27 (dk_at dksJ24_primitiveLeftShift_2 9 rfl rfl)
theorem dJ24_primitiveLeftShift_58 : decode cJ24_primitiveLeftShift 58 = .ok (.ishl, 1) := dk_120 (dk_at dksJ24_primitiveLeftShift_2 10 rfl rfl)
theorem dJ24_primitiveLeftShift_59 : decode cJ24_primitiveLeftShift 59 = .ok (.iload 5, 2) := dk_21 5 (dk_at dksJ24_primitiveLeftShift_2 11 rfl rfl)
theorem dJ24_primitiveLeftShift_61 : decode cJ24_primitiveLeftShift 61 = .ok (.iload_n 3, 1) := dk_29 (dk_at dksJ24_primitiveLeftShift_2 13 rfl rfl)
theorem dJ24_primitiveLeftShift_62 : decode cJ24_primitiveLeftShift 62 = .ok (.iushr, 1) := dk_124 (dk_at dksJ24_primitiveLeftShift_2 14 rfl rfl)
theorem dJ24_primitiveLeftShift_63 : decode cJ24_primitiveLeftShift 63 = .ok (.ior, 1) := dk_128 (dk_at dksJ24_primitiveLeftShift_2 15 rfl rfl)
theorem dJ24_primitiveLeftShift_64 : decode cJ24_primitiveLeftShift 64 = .ok (.iastore, 1) := dk_79 (dk_at dksJ24_primitiveLeftShift_2 16 rfl rfl)
theorem dJ24_primitiveLeftShift_65 : decode cJ24_primitiveLeftShift 65 = .ok (.iinc 4 1, 3) := dk_132 4 1 (dk_at dksJ24_primitiveLeftShift_2 17 rfl rfl)
theorem dJ24_primitiveLeftShift_68 : decode cJ24_primitiveLeftShift 68 = .ok (.goto (-35), 3) := dk_167 255 221 (dk_at dksJ24_primitiveLeftShift_2 20 rfl rfl)
theorem dJ24_primitiveLeftShift_71 : decode cJ24_primitiveLeftShift 71 = .ok (.aload_n 2, 1) := dk_44 (dk_at dksJ24_primitiveLeftShift_2 23 rfl rfl)
theorem dJ24_primitiveLeftShift_72 : decode cJ24_primitiveLeftShift 72 = .ok (.aload_n 0, 1) := dk_42 (dk_at dksJ24_primitiveLeftShift_3 0 rfl rfl)
theorem dJ24_primitiveLeftShift_73 : decode cJ24_primitiveLeftShift 73 = .ok (.getfield 11, 3) := dk_180 0 11 (dk_at dksJ24_primitiveLeftShift_3 1 rfl rfl)
theorem dJ24_primitiveLeftShift_76 : decode cJ24_primitiveLeftShift 76 = .ok (.aload_n 0, 1) := dk_42 (dk_at dksJ24_primitiveLeftShift_3 4 rfl rfl)
theorem dJ24_primitiveLeftShift_77 : decode cJ24_primitiveLeftShift 77 = .ok (.getfield 21, 3) := dk_180 0 21 (dk_at dksJ24_primitiveLeftShift_3 5 rfl rfl)
theorem dJ24_primitiveLeftShift_80 : decode cJ24_primitiveLeftShift 80 = .ok (.iadd, 1) := dk_96 (dk_at dksJ24_primitiveLeftShift_3 8 rfl rfl)
theorem dJ24_primitiveLeftShift_81 : decode cJ24_primitiveLeftShift 81 = .ok (.iconst 1, 1) := dk_4 (dk_at dksJ24_primitiveLeftShift_3 9 rfl rfl)
theorem dJ24_primitiveLeftShift_82 : decode cJ24_primitiveLeftShift 82 = .ok (.isub, 1) := dk_100 (dk_at dksJ24_primitiveLeftShift_3 10 rfl rfl)
theorem dJ24_primitiveLeftShift_83 : decode cJ24_primitiveLeftShift 83 = .ok (.dup2, 1) := dk_92 (dk_at dksJ24_primitiveLeftShift_3 11 rfl rfl)
theorem dJ24_primitiveLeftShift_84 : decode cJ24_primitiveLeftShift 84 = .ok (.iaload, 1) := dk_46 (dk_at dksJ24_primitiveLeftShift_3 12 rfl rfl)
theorem dJ24_primitiveLeftShift_85 : decode cJ24_primitiveLeftShift 85 = .ok (.iload_n 1, 1) := dk_27 (dk_at dksJ24_primitiveLeftShift_3 13 rfl rfl)
theorem dJ24_primitiveLeftShift_86 : decode cJ24_primitiveLeftShift 86 = .ok (.ishl, 1) := dk_120 (dk_at dksJ24_primitiveLeftShift_3 14 rfl rfl)
theorem dJ24_primitiveLeftShift_87 : decode cJ24_primitiveLeftShift 87 = .ok (.iastore, 1) := dk_79 (dk_at dksJ24_primitiveLeftShift_3 15 rfl rfl)
theorem dJ24_primitiveLeftShift_88 : decode cJ24_primitiveLeftShift 88 = .ok (.return_, 1) := dk_177 (dk_at dksJ24_primitiveLeftShift_3 16 rfl rfl)
theorem yd_J13_fill_2 : yJ13_fill_2.cls ≠ "java/lang/invoke/MethodHandle" ∧ yJ13_fill_2.cls ≠ "java/lang/invoke/VarHandle" ∧ (parseMethodDescriptor yJ13_fill_2.desc).map (fun d => d.parameters.length) = some 2 := by decide +kernel
theorem ydv_J24_getMagnitudeArray : yJ24_getMagnitudeArray.cls = "java/math/MutableBigInteger" ∧ yJ24_getMagnitudeArray.cls ≠ "java/lang/invoke/MethodHandle" ∧ yJ24_getMagnitudeArray.cls ≠ "java/lang/invoke/VarHandle" ∧ (parseMethodDescriptor yJ24_getMagnitudeArray.desc).map (fun d => d.parameters.length) = some 0 := by decide +kernel
/-! ### words -/
theorem iI_per {a c : Int} : iI (a + c * 4294967296) = iI a := by
  apply Int32.toInt_inj.mp
  show (Int32.ofInt _).toInt = (Int32.ofInt _).toInt
  rw [Int32.toInt_ofInt, Int32.toInt_ofInt]
  show Int.bmod _ 4294967296 = Int.bmod _ 4294967296
  rw [← Int.emod_bmod (x := a + c * 4294967296), ← Int.emod_bmod (x := a)]
  exact congrArg (fun x => Int.bmod x 4294967296) (by omega)
theorem l2i_sx {E q X : Nat} (h : q * X ≤ E) (hq : q < 4294967296) : (lN E - (nI q).toInt64 * lN X).toInt32 = nI (E - q * X) := by
  rcases Nat.lt_or_ge q 2147483648 with h1 | h1
  · rw [nI_l h1, lN_lI, lN_lI, lN_lI, lI_mul, lI_sub, lI_i32, nI_iI]
    exact congrArg iI (by rw [Int.ofNat_sub h, Int.natCast_mul])
  · have e1 : nI q = iI ((q : Int) - 4294967296) := by
      rw [nI_iI, ← iI_per (a := (q : Int) - 4294967296) (c := 1)]
      exact congrArg iI (by omega)
    rw [e1, iI_l (by omega) (by omega), lN_lI, lN_lI, lI_mul, lI_sub, lI_i32, nI_iI]
    have e2 : (E : Int) - ((q : Int) - 4294967296) * (X : Int) = ((E - q * X : Nat) : Int) + (X : Int) * 4294967296 := by
      rw [Int.ofNat_sub h, Int.natCast_mul, Int.sub_mul]
      omega
    rw [e2, iI_per]
theorem isBl_0 {b : Nat} (h : isBl 0 b) : b = 0 := by
  rcases h.2 with e | e
  · exact e
  · have := Nat.two_pow_pos (b - 1)
    omega
/-- the rest of a division told -/
theorem div_at {E q X r : Nat} (h : E = q * X + r) (hr : r < X) : E / X = q ∧ E - q * X = r := by
  refine ⟨?_, by omega⟩
  rw [h, Nat.mul_comm, Nat.mul_add_div (by omega), Nat.div_eq_of_lt hr, Nat.add_zero]
/-- a digit more divided -/
theorem dow_step {A G R D X B q : Nat} (h : A = G * X + R) (hq : q = (R * B + D) / X) (hX : 0 < X) : A * B + D = (G * B + q) * X + (R * B + D - q * X) ∧ R * B + D - q * X < X ∧ q * X ≤ R * B + D := by
  have h1 := Nat.div_add_mod (R * B + D) X
  have h2 := Nat.mod_lt (R * B + D) hX
  rw [← hq] at h1
  have h3 : X * q = q * X := Nat.mul_comm _ _
  refine ⟨?_, by omega, by omega⟩
  rw [h, Nat.add_mul, Nat.add_mul, Nat.mul_right_comm]
  omega
theorem dow_q {R D X : Nat} (hR : R < X) (hD : D < 4294967296) : (R * 4294967296 + D) / X < 4294967296 := by
  rw [Nat.div_lt_iff_lt_mul (by omega)]
  have : (R + 1) * 4294967296 ≤ X * 4294967296 := Nat.mul_le_mul_right _ hR
  rw [Nat.mul_comm]
  omega
/-- what a division lays into its quotient -/
def mQ (z : State) (s0 : Nat) (H : Heap) (b vq N Q : Nat) : Prop := ∃ (v1 n1 o1 nv1 : Nat) (g : Nat → Nat), (∀ i, g i < 4294967296) ∧ o1 + n1 ≤ nv1 ∧ nv1 ≤ N ∧ seg g o1 n1 = Q ∧ ((n1 = 0 ∧ o1 = 0) ∨ (0 < n1 ∧ g o1 ≠ 0)) ∧ (v1 = vq ∨ s0 ≤ v1) ∧ gO z true RJ24 TJ24 3 H b [.ref v1, .int (nI n1), .int (nI o1)] ∧ gI z true .int H v1 nv1 (dI g)

set_option maxHeartbeats 1000000 in
theorem m_magArr (l : Launch) (z : State) (H0 : Heap) (a : Nat) (v n o nv : Nat) (d : Nat → Nat) (hzw : zW z) (hav : v ≠ a) (hon : o + n ≤ nv) (hnv9 : nv < 1000000) (hd : ∀ i, d i < 4294967296) (hO : gO z true RJ24 TJ24 3 H0 a [.ref v, .int (nI n), .int (nI o)]) (hA : gI z true .int H0 v nv (dI d)) : Met l yJ24_getMagnitudeArray (ws_ yJ24_getMagnitudeArray cJ24_getMagnitudeArray 2 (some (.array .int))) { frames := 3, cells := 1, slots := n, locals := 86 } (gPc z H0 [.ref a]) (gRr (fun q => q = a ∨ q = v ∨ H0.size ≤ q) H0 (fun r H1 => ∃ dd, (∀ i, i < n → dd i = d (o + i)) ∧ (∀ i, dd i < 4294967296) ∧ (r = v ∨ H0.size ≤ r) ∧ gI z true .int H1 r n (dI dd))) 1 n (fun q => q = a ∨ q = v ∨ H0.size ≤ q) := by
  refine g_start (by decide +kernel) (Nat.le_of_ble_eq_true rfl) ?_
  intro p e s m below meth c ls hx hb hr hlocks hml hown hname hts hwm hl
  have hown : s.vm.findClass "java/math/MutableBigInteger" = some m.cls := hown
  have hal : z.vm.Alike s.vm := hwm.alike
  have hCF : CallFix p m c cJ24_getMagnitudeArray 2 s [.ref a].toArray lw_all "java/math/MutableBigInteger" := ⟨hx, hb, hml, hown, hts⟩
  have hl : lv_has ls 2 [(0, .ref a)] := hl
  have hS : va_S (fun q => q = a ∨ q = v ∨ H0.size ≤ q) H0 H0 [] := va_S.rf
  have lt_a := hO.lt
  have lt_v := hA.lt
  refine lv_aload_n hx hb dJ24_getMagnitudeArray_0 rfl (lv_at hl 0 rfl) ?_
  refine gw_get (C := RJ24) (T := TJ24) (N := 3) (v := .int (nI o)) hx hb hts in_J24 hown hal hO 2 (by decide) (hts _ q981) (fun _ h9 => h9) rfl dJ24_getMagnitudeArray_1 ?_
  refine lv_if_gt (tgt := 19) hx hb dJ24_getMagnitudeArray_4 (by decide) (fun c_4 => ?_) (fun c_4 => ?_)
  · skip
    have c_4 := (ai_lt (a := 0) (b := o) (rfl) (rfl) (by omega) (by omega)).mp c_4
    refine lv_aload_n hx hb dJ24_getMagnitudeArray_19 rfl (lv_at hl 0 rfl) ?_
    refine gw_get (C := RJ24) (T := TJ24) (N := 3) (v := .ref v) hx hb hts in_J24 hown hal hO 0 (by decide) (hts _ q979) (fun _ h9 => h9) rfl dJ24_getMagnitudeArray_20 ?_
    refine lv_aload_n hx hb dJ24_getMagnitudeArray_23 rfl (lv_at hl 0 rfl) ?_
    refine gw_get (C := RJ24) (T := TJ24) (N := 3) (v := .int (nI o)) hx hb hts in_J24 hown hal hO 2 (by decide) (hts _ q981) (fun _ h9 => h9) rfl dJ24_getMagnitudeArray_24 ?_
    refine lv_aload_n hx hb dJ24_getMagnitudeArray_27 rfl (lv_at hl 0 rfl) ?_
    refine gw_get (C := RJ24) (T := TJ24) (N := 3) (v := .int (nI o)) hx hb hts in_J24 hown hal hO 2 (by decide) (hts _ q981) (fun _ h9 => h9) rfl dJ24_getMagnitudeArray_28 ?_
    refine lv_aload_n hx hb dJ24_getMagnitudeArray_31 rfl (lv_at hl 0 rfl) ?_
    refine gw_get (C := RJ24) (T := TJ24) (N := 3) (v := .int (nI n)) hx hb hts in_J24 hown hal hO 1 (by decide) (hts _ q980) (fun _ h9 => h9) rfl dJ24_getMagnitudeArray_32 ?_
    refine lv_iadd hx hb dJ24_getMagnitudeArray_35 ?_
    refine g_topi (v := nI (o + n)) (ai_add (a := o) (b := n) (rfl) (rfl)) ?_
    have hAo := hA.lt
    have hOo := hO.lt
    have hsz := hS.1
    refine gcS3_r hCF hwm hl.1 (m_copyRangeE l z H0 v o (o + n) nv true d (by omega) (by omega) (by omega) hA hA.exa hzw ) (lw_S q1016 q1017 q73 q1018) yd_J13_copyOfRange_2 hS (fun q h => by have hsz := hS.1; (try dsimp only [gfr] at h ⊢) <;> omega) ⟨Nat.le_of_ble_eq_true rfl, Nat.le_of_ble_eq_true rfl⟩ ⟨by first | omega | (dsimp only; omega), by first | omega | (dsimp only; omega)⟩ (Nat.le_of_ble_eq_true rfl) dJ24_getMagnitudeArray_36 (fun rc H_1 locs hp hex hS => ?_)
    have sz_H_1 : H0.size ≤ H_1.size := hex.1
    have hgx := hex.x
    clear hex
    have hO := hO.x hgx
    have hA := hA.x hgx
    obtain ⟨hcp1, hcp2⟩ := hp
    have lt_rc := hcp2.lt
    refine lv_astore_n hx hb dJ24_getMagnitudeArray_39 rfl hl (by decide) rfl (fun ls hl => ?_)
    have hl : lv_has ls 2 [(1, .ref rc), (0, .ref a)] := hl
    refine lv_aload_n hx hb dJ24_getMagnitudeArray_40 rfl (lv_at hl 1 rfl) ?_
    refine gw_get (C := RJ24) (T := TJ24) (N := 3) (v := .ref v) hx hb hts in_J24 hown hal hO 0 (by decide) (hts _ q979) (fun _ h9 => h9) rfl dJ24_getMagnitudeArray_41 ?_
    refine lv_iconst (v := 0) hx hb dJ24_getMagnitudeArray_44 (by decide) ?_
    have hsz := hS.1
    refine gcS2_v hCF hwm hl.1 (m_fillI l z H_1 v nv d hnv9 hd hA ) (lw_S q1186 q1187 q73 q1188) yd_J13_fill_2 hS (fun q h => by have hsz := hS.1; (try dsimp only [gfr] at h ⊢) <;> omega) ⟨Nat.le_of_ble_eq_true rfl, Nat.le_of_ble_eq_true rfl⟩ ⟨by first | omega | (dsimp only; omega), by first | omega | (dsimp only; omega)⟩ (Nat.le_of_ble_eq_true rfl) dJ24_getMagnitudeArray_45 (fun H_2 locs hp hex hS => ?_)
    have sz_H_2 : H_1.size ≤ H_2.size := hex.1
    have hO := hO.ex hex (by intro h; (try dsimp only [gfr] at h) <;> omega)
    have hcp2 := hcp2.ex hex (by intro h; (try dsimp only [gfr] at h) <;> omega)
    clear hA
    obtain ⟨g5, hg5, hA⟩ := hp
    have lt_v := hA.lt
    refine lv_aload_n hx hb dJ24_getMagnitudeArray_48 rfl (lv_at hl 1 rfl) ?_
    refine lv_iconst (v := 0) hx hb dJ24_getMagnitudeArray_49 (by decide) ?_
    refine gw_put (C := RJ24) (T := TJ24) (N := 3) (ty := .int) (v := .int 0) hx hb hts in_J24 tyJ24 tyJ24_ok nmJ24 (hts _ q974) hown hal hO hS (by have hsz := hS.1; (try dsimp only [gfr]) <;> omega) 2 (by decide) (hts _ q981) (fun _ h9 => h9) rfl (by decide +kernel) (rfl) (rfl) (Nat.le_of_ble_eq_true rfl) dJ24_getMagnitudeArray_50 (fun H_4 locs h_new hch hS => ?_)
    have hcp2 := hcp2.ch hch (by omega)
    have hA := hA.ch hch (by omega)
    have sz_H_4 := hch.1
    clear hch
    have hO : gO z true RJ24 TJ24 3 H_4 a [.ref v, .int (nI n), .int 0] := h_new
    refine lv_aload_n hx hb dJ24_getMagnitudeArray_53 rfl (lv_at hl 1 rfl) ?_
    refine lv_aload_n hx hb dJ24_getMagnitudeArray_54 rfl (lv_at hl 0 rfl) ?_
    refine gw_len hx hb hal hcp2 dJ24_getMagnitudeArray_55 ?_
    refine g_topi (v := (nI n)) (congrArg nI (by omega)) ?_
    refine gw_put (C := RJ24) (T := TJ24) (N := 3) (ty := .int) (v := .int (nI n)) hx hb hts in_J24 tyJ24 tyJ24_ok nmJ24 (hts _ q974) hown hal hO hS (by have hsz := hS.1; (try dsimp only [gfr]) <;> omega) 1 (by decide) (hts _ q980) (fun _ h9 => h9) rfl (by decide +kernel) (rfl) (rfl) (Nat.le_of_ble_eq_true rfl) dJ24_getMagnitudeArray_56 (fun H_5 locs h_new hch hS => ?_)
    have hcp2 := hcp2.ch hch (by omega)
    have hA := hA.ch hch (by omega)
    have sz_H_5 := hch.1
    clear hch
    have hO : gO z true RJ24 TJ24 3 H_5 a [.ref v, .int (nI n), .int 0] := h_new
    refine lv_aload_n hx hb dJ24_getMagnitudeArray_59 rfl (lv_at hl 1 rfl) ?_
    refine lv_aload_n hx hb dJ24_getMagnitudeArray_60 rfl (lv_at hl 0 rfl) ?_
    refine gw_put (C := RJ24) (T := TJ24) (N := 3) (ty := (.array .int)) (v := .ref rc) hx hb hts in_J24 tyJ24 tyJ24_ok nmJ24 (hts _ q974) hown hal hO hS (by have hsz := hS.1; (try dsimp only [gfr]) <;> omega) 0 (by decide) (hts _ q979) (fun _ h9 => h9) rfl (by decide +kernel) (rfl) (rfl) (Nat.le_of_ble_eq_true rfl) dJ24_getMagnitudeArray_61 (fun H_6 locs h_new hch hS => ?_)
    have hcp2 := hcp2.ch hch (by omega)
    have hA := hA.ch hch (by omega)
    have sz_H_6 := hch.1
    clear hch
    have hO : gO z true RJ24 TJ24 3 H_6 a [.ref rc, .int (nI n), .int 0] := h_new
    refine lv_aload_n hx hb dJ24_getMagnitudeArray_64 rfl (lv_at hl 1 rfl) ?_
    refine gw_get (C := RJ24) (T := TJ24) (N := 3) (v := .ref rc) hx hb hts in_J24 hown hal hO 0 (by decide) (hts _ q979) (fun _ h9 => h9) rfl dJ24_getMagnitudeArray_65 ?_
    refine g_aret hx hb hr hlocks (Or.inr ⟨_, rfl⟩) hS (by first | omega | (dsimp only; omega)) (by first | omega | (dsimp only; omega)) ?_ dJ24_getMagnitudeArray_68
    refine ⟨(fun i => d (o + i)), fun i _ => rfl, fun i => hd _, Or.inr (by omega), ?_⟩
    rw [show o + n - o = n by omega] at hcp2
    exact hcp2
  · skip
    have c_4 := mt (ai_lt (a := 0) (b := o) (rfl) (rfl) (by omega) (by omega)).mpr c_4
    refine lv_aload_n hx hb dJ24_getMagnitudeArray_7 rfl (lv_at hl 0 rfl) ?_
    refine gw_get (C := RJ24) (T := TJ24) (N := 3) (v := .ref v) hx hb hts in_J24 hown hal hO 0 (by decide) (hts _ q979) (fun _ h9 => h9) rfl dJ24_getMagnitudeArray_8 ?_
    refine gw_len hx hb hal hA dJ24_getMagnitudeArray_11 ?_
    refine lv_aload_n hx hb dJ24_getMagnitudeArray_12 rfl (lv_at hl 0 rfl) ?_
    refine gw_get (C := RJ24) (T := TJ24) (N := 3) (v := .int (nI n)) hx hb hts in_J24 hown hal hO 1 (by decide) (hts _ q980) (fun _ h9 => h9) rfl dJ24_getMagnitudeArray_13 ?_
    refine lv_icmp_eq (tgt := 64) hx hb dJ24_getMagnitudeArray_16 (by decide) (fun c_16 => ?_) (fun c_16 => ?_)
    · skip
      have c_16 := (ai_eq (a := nv) (b := n) (rfl) (rfl) (by omega) (by omega)).mp c_16
      refine lv_aload_n hx hb dJ24_getMagnitudeArray_64 rfl (lv_at hl 0 rfl) ?_
      refine gw_get (C := RJ24) (T := TJ24) (N := 3) (v := .ref v) hx hb hts in_J24 hown hal hO 0 (by decide) (hts _ q979) (fun _ h9 => h9) rfl dJ24_getMagnitudeArray_65 ?_
      refine g_aret hx hb hr hlocks (Or.inr ⟨_, rfl⟩) hS (by first | omega | (dsimp only; omega)) (by first | omega | (dsimp only; omega)) ?_ dJ24_getMagnitudeArray_68
      refine ⟨d, fun i _ => by rw [show o = 0 by omega, Nat.zero_add], hd, Or.inl rfl, ?_⟩
      rw [show n = nv by omega]
      exact hA
    · skip
      have c_16 := mt (ai_eq (a := nv) (b := n) (rfl) (rfl) (by omega) (by omega)).mpr c_16
      refine lv_aload_n hx hb dJ24_getMagnitudeArray_19 rfl (lv_at hl 0 rfl) ?_
      refine gw_get (C := RJ24) (T := TJ24) (N := 3) (v := .ref v) hx hb hts in_J24 hown hal hO 0 (by decide) (hts _ q979) (fun _ h9 => h9) rfl dJ24_getMagnitudeArray_20 ?_
      refine lv_aload_n hx hb dJ24_getMagnitudeArray_23 rfl (lv_at hl 0 rfl) ?_
      refine gw_get (C := RJ24) (T := TJ24) (N := 3) (v := .int (nI o)) hx hb hts in_J24 hown hal hO 2 (by decide) (hts _ q981) (fun _ h9 => h9) rfl dJ24_getMagnitudeArray_24 ?_
      refine lv_aload_n hx hb dJ24_getMagnitudeArray_27 rfl (lv_at hl 0 rfl) ?_
      refine gw_get (C := RJ24) (T := TJ24) (N := 3) (v := .int (nI o)) hx hb hts in_J24 hown hal hO 2 (by decide) (hts _ q981) (fun _ h9 => h9) rfl dJ24_getMagnitudeArray_28 ?_
      refine lv_aload_n hx hb dJ24_getMagnitudeArray_31 rfl (lv_at hl 0 rfl) ?_
      refine gw_get (C := RJ24) (T := TJ24) (N := 3) (v := .int (nI n)) hx hb hts in_J24 hown hal hO 1 (by decide) (hts _ q980) (fun _ h9 => h9) rfl dJ24_getMagnitudeArray_32 ?_
      refine lv_iadd hx hb dJ24_getMagnitudeArray_35 ?_
      refine g_topi (v := nI (o + n)) (ai_add (a := o) (b := n) (rfl) (rfl)) ?_
      have hAo := hA.lt
      have hOo := hO.lt
      have hsz := hS.1
      refine gcS3_r hCF hwm hl.1 (m_copyRangeE l z H0 v o (o + n) nv true d (by omega) (by omega) (by omega) hA hA.exa hzw ) (lw_S q1016 q1017 q73 q1018) yd_J13_copyOfRange_2 hS (fun q h => by have hsz := hS.1; (try dsimp only [gfr] at h ⊢) <;> omega) ⟨Nat.le_of_ble_eq_true rfl, Nat.le_of_ble_eq_true rfl⟩ ⟨by first | omega | (dsimp only; omega), by first | omega | (dsimp only; omega)⟩ (Nat.le_of_ble_eq_true rfl) dJ24_getMagnitudeArray_36 (fun rc H_7 locs hp hex hS => ?_)
      have sz_H_7 : H0.size ≤ H_7.size := hex.1
      have hgx := hex.x
      clear hex
      have hO := hO.x hgx
      have hA := hA.x hgx
      obtain ⟨hcp1, hcp2⟩ := hp
      have lt_rc := hcp2.lt
      refine lv_astore_n hx hb dJ24_getMagnitudeArray_39 rfl hl (by decide) rfl (fun ls hl => ?_)
      have hl : lv_has ls 2 [(1, .ref rc), (0, .ref a)] := hl
      refine lv_aload_n hx hb dJ24_getMagnitudeArray_40 rfl (lv_at hl 1 rfl) ?_
      refine gw_get (C := RJ24) (T := TJ24) (N := 3) (v := .ref v) hx hb hts in_J24 hown hal hO 0 (by decide) (hts _ q979) (fun _ h9 => h9) rfl dJ24_getMagnitudeArray_41 ?_
      refine lv_iconst (v := 0) hx hb dJ24_getMagnitudeArray_44 (by decide) ?_
      have hsz := hS.1
      refine gcS2_v hCF hwm hl.1 (m_fillI l z H_7 v nv d hnv9 hd hA ) (lw_S q1186 q1187 q73 q1188) yd_J13_fill_2 hS (fun q h => by have hsz := hS.1; (try dsimp only [gfr] at h ⊢) <;> omega) ⟨Nat.le_of_ble_eq_true rfl, Nat.le_of_ble_eq_true rfl⟩ ⟨by first | omega | (dsimp only; omega), by first | omega | (dsimp only; omega)⟩ (Nat.le_of_ble_eq_true rfl) dJ24_getMagnitudeArray_45 (fun H_8 locs hp hex hS => ?_)
      have sz_H_8 : H_7.size ≤ H_8.size := hex.1
      have hO := hO.ex hex (by intro h; (try dsimp only [gfr] at h) <;> omega)
      have hcp2 := hcp2.ex hex (by intro h; (try dsimp only [gfr] at h) <;> omega)
      clear hA
      obtain ⟨g5, hg5, hA⟩ := hp
      have lt_v := hA.lt
      refine lv_aload_n hx hb dJ24_getMagnitudeArray_48 rfl (lv_at hl 1 rfl) ?_
      refine lv_iconst (v := 0) hx hb dJ24_getMagnitudeArray_49 (by decide) ?_
      refine gw_put (C := RJ24) (T := TJ24) (N := 3) (ty := .int) (v := .int 0) hx hb hts in_J24 tyJ24 tyJ24_ok nmJ24 (hts _ q974) hown hal hO hS (by have hsz := hS.1; (try dsimp only [gfr]) <;> omega) 2 (by decide) (hts _ q981) (fun _ h9 => h9) rfl (by decide +kernel) (rfl) (rfl) (Nat.le_of_ble_eq_true rfl) dJ24_getMagnitudeArray_50 (fun H_10 locs h_new hch hS => ?_)
      have hcp2 := hcp2.ch hch (by omega)
      have hA := hA.ch hch (by omega)
      have sz_H_10 := hch.1
      clear hch
      have hO : gO z true RJ24 TJ24 3 H_10 a [.ref v, .int (nI n), .int 0] := h_new
      refine lv_aload_n hx hb dJ24_getMagnitudeArray_53 rfl (lv_at hl 1 rfl) ?_
      refine lv_aload_n hx hb dJ24_getMagnitudeArray_54 rfl (lv_at hl 0 rfl) ?_
      refine gw_len hx hb hal hcp2 dJ24_getMagnitudeArray_55 ?_
      refine g_topi (v := (nI n)) (congrArg nI (by omega)) ?_
      refine gw_put (C := RJ24) (T := TJ24) (N := 3) (ty := .int) (v := .int (nI n)) hx hb hts in_J24 tyJ24 tyJ24_ok nmJ24 (hts _ q974) hown hal hO hS (by have hsz := hS.1; (try dsimp only [gfr]) <;> omega) 1 (by decide) (hts _ q980) (fun _ h9 => h9) rfl (by decide +kernel) (rfl) (rfl) (Nat.le_of_ble_eq_true rfl) dJ24_getMagnitudeArray_56 (fun H_11 locs h_new hch hS => ?_)
      have hcp2 := hcp2.ch hch (by omega)
      have hA := hA.ch hch (by omega)
      have sz_H_11 := hch.1
      clear hch
      have hO : gO z true RJ24 TJ24 3 H_11 a [.ref v, .int (nI n), .int 0] := h_new
      refine lv_aload_n hx hb dJ24_getMagnitudeArray_59 rfl (lv_at hl 1 rfl) ?_
      refine lv_aload_n hx hb dJ24_getMagnitudeArray_60 rfl (lv_at hl 0 rfl) ?_
      refine gw_put (C := RJ24) (T := TJ24) (N := 3) (ty := (.array .int)) (v := .ref rc) hx hb hts in_J24 tyJ24 tyJ24_ok nmJ24 (hts _ q974) hown hal hO hS (by have hsz := hS.1; (try dsimp only [gfr]) <;> omega) 0 (by decide) (hts _ q979) (fun _ h9 => h9) rfl (by decide +kernel) (rfl) (rfl) (Nat.le_of_ble_eq_true rfl) dJ24_getMagnitudeArray_61 (fun H_12 locs h_new hch hS => ?_)
      have hcp2 := hcp2.ch hch (by omega)
      have hA := hA.ch hch (by omega)
      have sz_H_12 := hch.1
      clear hch
      have hO : gO z true RJ24 TJ24 3 H_12 a [.ref rc, .int (nI n), .int 0] := h_new
      refine lv_aload_n hx hb dJ24_getMagnitudeArray_64 rfl (lv_at hl 1 rfl) ?_
      refine gw_get (C := RJ24) (T := TJ24) (N := 3) (v := .ref rc) hx hb hts in_J24 hown hal hO 0 (by decide) (hts _ q979) (fun _ h9 => h9) rfl dJ24_getMagnitudeArray_65 ?_
      refine g_aret hx hb hr hlocks (Or.inr ⟨_, rfl⟩) hS (by first | omega | (dsimp only; omega)) (by first | omega | (dsimp only; omega)) ?_ dJ24_getMagnitudeArray_68
      refine ⟨(fun i => d (o + i)), fun i _ => rfl, fun i => hd _, Or.inr (by omega), ?_⟩
      rw [show o + n - o = n by omega] at hcp2
      exact hcp2
set_option maxHeartbeats 1000000 in
theorem m_toBig0 (l : Launch) (z : State) (H0 : Heap) (a : Nat) (sg : Int32) (v o : Nat) (k : Nat → Nat) (hsb : sB z k (gfr H0) H0) (hO : gO z true RJ24 TJ24 3 H0 a [.ref v, .int 0, .int (nI o)]) : Met l yJ24_toBigInteger (ws_ yJ24_toBigInteger cJ24_toBigInteger 2 (some (.object "java/math/BigInteger"))) { frames := 0, cells := 0, slots := 0, locals := 0 } (gPc z H0 [.ref a, .int sg]) (gPr H0 (fun r => r = k 14)) 0 0 gno := by
  refine g_start (by decide +kernel) (Nat.le_of_ble_eq_true rfl) ?_
  intro p e s m below meth c ls hx hb hr hlocks hml hown hname hts hwm hl
  have hown : s.vm.findClass "java/math/MutableBigInteger" = some m.cls := hown
  have hal : z.vm.Alike s.vm := hwm.alike
  have hCF : CallFix p m c cJ24_toBigInteger 2 s [.ref a, .int sg].toArray lw_all "java/math/MutableBigInteger" := ⟨hx, hb, hml, hown, hts⟩
  have hl : lv_has ls 2 [(0, .ref a), (1, .int sg)] := hl
  refine lv_aload_n hx hb dJ24_toBigInteger_0 rfl (lv_at hl 0 rfl) ?_
  refine gw_get (C := RJ24) (T := TJ24) (N := 3) (v := .int 0) hx hb hts in_J24 hown hal hO 1 (by decide) (hts _ q980) (fun _ h9 => h9) rfl dJ24_toBigInteger_1 ?_
  refine lv_if_eq (tgt := 11) hx hb dJ24_toBigInteger_4 (by decide) (fun c_4 => ?_) (fun c_4 => absurd (by decide) c_4)
  refine gw_getsP hx hb hal hsb.1.1 hown (hts _ q1175) (fun _ h9 => h9) dJ24_toBigInteger_11 ?_
  refine g_aretP hx hb hr hlocks (Or.inl ⟨_, rfl⟩) ?_ dJ24_toBigInteger_14
  rfl
set_option maxHeartbeats 1000000 in
theorem m_toBig (l : Launch) (z : State) (H0 : Heap) (a : Nat) (v n o nv : Nat) (d : Nat → Nat) (hzw : zW z) (hav : v ≠ a) (hon : o + n ≤ nv) (hnv9 : nv < 1000000) (hn0 : 0 < n) (hn9 : n < 1000) (hd0 : d o ≠ 0) (hd : ∀ i, d i < 4294967296) (hO : gO z true RJ24 TJ24 3 H0 a [.ref v, .int (nI n), .int (nI o)]) (hA : gI z true .int H0 v nv (dI d)) : Met l yJ24_toBigInteger (ws_ yJ24_toBigInteger cJ24_toBigInteger 2 (some (.object "java/math/BigInteger"))) { frames := 4, cells := 2, slots := (6 + n), locals := 107 } (gPc z H0 [.ref a, .int 1]) (gRr (fun q => q = a ∨ q = v ∨ H0.size ≤ q) H0 (fun r H1 => ∃ m1 dd, H0.size ≤ r ∧ (m1 = v ∨ H0.size ≤ m1) ∧ bI z true H1 r m1 n dd ((seg d o n : Nat) : Int))) 2 (6 + n) (fun q => q = a ∨ q = v ∨ H0.size ≤ q) := by
  refine g_start (by decide +kernel) (Nat.le_of_ble_eq_true rfl) ?_
  intro p e s m below meth c ls hx hb hr hlocks hml hown hname hts hwm hl
  have hown : s.vm.findClass "java/math/MutableBigInteger" = some m.cls := hown
  have hal : z.vm.Alike s.vm := hwm.alike
  have hCF : CallFix p m c cJ24_toBigInteger 2 s [.ref a, .int 1].toArray lw_all "java/math/MutableBigInteger" := ⟨hx, hb, hml, hown, hts⟩
  have hl : lv_has ls 2 [(0, .ref a), (1, .int 1)] := hl
  have hS : va_S (fun q => q = a ∨ q = v ∨ H0.size ≤ q) H0 H0 [] := va_S.rf
  have hAlt := hA.lt
  have hOlt := hO.lt
  have lt_a := hO.lt
  have lt_v := hA.lt
  refine lv_aload_n hx hb dJ24_toBigInteger_0 rfl (lv_at hl 0 rfl) ?_
  refine gw_get (C := RJ24) (T := TJ24) (N := 3) (v := .int (nI n)) hx hb hts in_J24 hown hal hO 1 (by decide) (hts _ q980) (fun _ h9 => h9) rfl dJ24_toBigInteger_1 ?_
  refine lv_if_eq (tgt := 11) hx hb dJ24_toBigInteger_4 (by decide) (fun c_4 => False.elim (by
    have c_4 := (ai_eq (a := n) (b := 0) (rfl) (rfl) (by omega) (by omega)).mp c_4
    omega)) (fun c_4 => ?_)
  have c_4 := mt (ai_eq (a := n) (b := 0) (rfl) (rfl) (by omega) (by omega)).mpr c_4
  refine lv_iload_n hx hb dJ24_toBigInteger_7 rfl (lv_at hl 1 rfl) ?_
  refine lv_if_ne (tgt := 15) hx hb dJ24_toBigInteger_8 (by decide) (fun c_8 => ?_) (fun c_8 => absurd c_8 (by decide))
  have hsz := hS.1
  have lt_a := hO.lt
  have lt_v := hA.lt
  refine gw_new (C := RJ22) (T := TJ22) (N := 6) (fs := [.int 0, .null, .int 0, .int 0, .int 0, .int 0]) hx hb hts in_J22 tyJ22 tyJ22_ok hown hal (hts _ q1181) (hts _ q819) (hts _ q83) hS (by decide +kernel) (by first | omega | (dsimp only; omega)) (by first | omega | (dsimp only; omega)) dJ24_toBigInteger_15 (fun qb H_1 eqb zqb hgx h_qb hS => ?_)
  have hO := hO.x hgx
  have hA := hA.x hgx
  refine lv_dup hx hb dJ24_toBigInteger_18 rfl ?_
  refine lv_aload_n hx hb dJ24_toBigInteger_19 rfl (lv_at hl 0 rfl) ?_
  have hsz := hS.1
  refine gcV0_r hCF hwm hl.1 (m_magArr l z H_1 a v n o nv d hzw hav hon hnv9 hd hO hA ) (lw_V q1182 q1184 qs16 q85 q1185) ydv_J24_getMagnitudeArray (hO.recv hal) hS (fun q h => by have hsz := hS.1; (try dsimp only [gfr] at h ⊢) <;> omega) ⟨Nat.le_of_ble_eq_true rfl, Nat.le_of_ble_eq_true rfl⟩ ⟨by first | omega | (dsimp only; omega), by first | omega | (dsimp only; omega)⟩ (Nat.le_of_ble_eq_true rfl) dJ24_toBigInteger_20 (fun rm H_2 locs hp hex hS => ?_)
  have sz_H_2 : H_1.size ≤ H_2.size := hex.1
  have h_qb := h_qb.ex hex (by intro h; (try dsimp only [gfr] at h) <;> omega)
  obtain ⟨dd, hdd1, hdd2, hrm, hM⟩ := hp
  have lt_rm := hM.lt
  refine lv_iload_n hx hb dJ24_toBigInteger_23 rfl (lv_at hl 1 rfl) ?_
  have hsz := hS.1
  refine gcI2_v hCF hwm hl.1 (m_bigInit l z H_2 qb rm 1 n dd true hn0 hn9 h_qb hM ) q1189 q821 q83 q822 rfl yd_J22_init hS (fun q h => by have hsz := hS.1; (try dsimp only [gfr] at h ⊢) <;> omega) ⟨Nat.le_of_ble_eq_true rfl, Nat.le_of_ble_eq_true rfl⟩ ⟨by first | omega | (dsimp only; omega), by first | omega | (dsimp only; omega)⟩ (Nat.le_of_ble_eq_true rfl) dJ24_toBigInteger_24 (fun H_3 locs hp hex hS => ?_)
  have sz_H_3 : H_2.size ≤ H_3.size := hex.1
  have hM := hM.ex hex (by intro h; (try dsimp only [gfr] at h) <;> omega)
  have hB := hp
  refine g_aret hx hb hr hlocks (Or.inl ⟨_, rfl⟩) hS (by first | omega | (dsimp only; omega)) (by first | omega | (dsimp only; omega)) ?_ dJ24_toBigInteger_27
  refine ⟨rm, dd, by omega, by omega, bI_mk hB hM hdd2 ?_ ?_ ?_ hn9⟩
  · unfold seg
    exact val_cg hdd1
  · have := (seg_lead hd hn0 hd0).1
    have h9 := Nat.pow_pos (n := n - 1) (show 0 < 4294967296 by decide)
    omega
  · rw [hdd1 0 hn0]
    exact hd0
set_option maxHeartbeats 1000000 in
theorem m_mLsb (l : Launch) (z : State) (H0 : Heap) (a : Nat) (v n o nv : Nat) (w wv : Bool) (d : Nat → Nat) (hn0 : 0 < n) (hn9 : n < 1000) (hon : o + n ≤ nv) (hnv9 : nv < 1000000) (hd0 : d o ≠ 0) (hd : ∀ i, d i < 4294967296) (hO : gO z w RJ24 TJ24 3 H0 a [.ref v, .int (nI n), .int (nI o)]) (hA : gI z wv .int H0 v nv (dI d)) : Met l yJ24_getLowestSetBit (ws_ yJ24_getLowestSetBit cJ24_getLowestSetBit 3 (some .int)) { frames := 1, cells := 0, slots := 0, locals := 21 } (gPc z H0 [.ref a]) (gPi H0 (fun r => ∃ t, r = nI t ∧ t < 100000 ∧ (d (o + (n - 1)) ≠ 0 → t < 32))) 0 0 gno := by
  refine g_start (by decide +kernel) (Nat.le_of_ble_eq_true rfl) ?_
  intro p e s m below meth c ls hx hb hr hlocks hml hown hname hts hwm hl
  have hown : s.vm.findClass "java/math/MutableBigInteger" = some m.cls := hown
  have hal : z.vm.Alike s.vm := hwm.alike
  have hCF : CallFix p m c cJ24_getLowestSetBit 3 s [.ref a].toArray lw_all "java/math/MutableBigInteger" := ⟨hx, hb, hml, hown, hts⟩
  have hl : lv_has ls 3 [(0, .ref a)] := hl
  refine lv_aload_n hx hb dJ24_getLowestSetBit_0 rfl (lv_at hl 0 rfl) ?_
  refine gw_get (C := RJ24) (T := TJ24) (N := 3) (v := .int (nI n)) hx hb hts in_J24 hown hal hO 1 (by decide) (hts _ q980) (fun _ h9 => h9) rfl dJ24_getLowestSetBit_1 ?_
  refine lv_if_ne (tgt := 9) hx hb dJ24_getLowestSetBit_4 (by decide) (fun c_4 => ?_) (fun c_4 => False.elim (by
    have c_4 := (ai_eq (a := n) (b := 0) (rfl) (rfl) (by omega) (by omega)).mp c_4
    omega))
  have c_4 := mt (ai_eq (a := n) (b := 0) (rfl) (rfl) (by omega) (by omega)).mpr c_4
  refine lv_aload_n hx hb dJ24_getLowestSetBit_9 rfl (lv_at hl 0 rfl) ?_
  refine gw_get (C := RJ24) (T := TJ24) (N := 3) (v := .int (nI n)) hx hb hts in_J24 hown hal hO 1 (by decide) (hts _ q980) (fun _ h9 => h9) rfl dJ24_getLowestSetBit_10 ?_
  refine lv_iconst (v := 1) hx hb dJ24_getLowestSetBit_13 (by decide) ?_
  refine lv_isub hx hb dJ24_getLowestSetBit_14 ?_
  refine g_topi (v := nI (n - 1)) (ai_sub (a := n) (b := 1) (rfl) (rfl) (by omega)) ?_
  refine lv_istore_n hx hb dJ24_getLowestSetBit_15 rfl hl (by decide) rfl (fun ls hl => ?_)
  have hl : lv_has ls 3 [(1, .int (nI (n - 1))), (0, .ref a)] := hl
  have loopA : ∀ (n_ : Nat) (i : Nat), (i < n) → (∀ j, j < i → d (o + (n - 1 - j)) = 0) → (n - i) < n_ → ∀ (ls : Array Slot), lv_has ls 3 [(1, .int (nI (n - 1 - i))), (0, .ref a)] → W p l e { frames := 1, cells := 0, slots := 0, locals := 21 } s m [.ref a].toArray below meth c H0 [] 0 0 (MQ below (gPi H0 (fun r => ∃ t, r = nI t ∧ t < 100000 ∧ (d (o + (n - 1)) ≠ 0 → t < 32))) [.ref a].toArray s 0 0 (gno)) (F0 m 16 ls []) := by
    intro n_
    induction n_ with
    | zero => intro i hi hq hm_; exact absurd hm_ (Nat.not_lt_zero _)
    | succ n_ ih_loopA =>
      intro i hi hq hm_ ls hl
      refine lv_iload_n hx hb dJ24_getLowestSetBit_16 rfl (lv_at hl 0 rfl) ?_
      refine lv_if_le (tgt := 40) hx hb dJ24_getLowestSetBit_17 (by decide) (fun c_17 => ?_) (fun c_17 => ?_)
      · skip
        have c_17 := (ai_le (a := (n - 1 - i)) (b := 0) (rfl) (rfl) (by omega) (by omega)).mp c_17
        have hxx : d (n - 1 - i + o) ≠ 0 := by
          first | exact c_31 | (rw [show n - 1 - i + o = o by omega]; exact hd0)
        refine lv_aload_n hx hb dJ24_getLowestSetBit_40 rfl (lv_at hl 1 rfl) ?_
        refine gw_get (C := RJ24) (T := TJ24) (N := 3) (v := .ref v) hx hb hts in_J24 hown hal hO 0 (by decide) (hts _ q979) (fun _ h9 => h9) rfl dJ24_getLowestSetBit_41 ?_
        refine lv_iload_n hx hb dJ24_getLowestSetBit_44 rfl (lv_at hl 0 rfl) ?_
        refine lv_aload_n hx hb dJ24_getLowestSetBit_45 rfl (lv_at hl 1 rfl) ?_
        refine gw_get (C := RJ24) (T := TJ24) (N := 3) (v := .int (nI o)) hx hb hts in_J24 hown hal hO 2 (by decide) (hts _ q981) (fun _ h9 => h9) rfl dJ24_getLowestSetBit_46 ?_
        refine lv_iadd hx hb dJ24_getLowestSetBit_49 ?_
        refine g_topi (v := nI ((n - 1 - i) + o)) (ai_add (a := (n - 1 - i)) (b := o) (rfl) (rfl)) ?_
        refine gw_iald hx hb hal hA ((n - 1 - i) + o) (rfl) (by omega) (by omega) dJ24_getLowestSetBit_50 ?_
        refine g_topi (v := (nI (d ((n - 1 - i) + o)))) rfl ?_
        refine lv_istore_n hx hb dJ24_getLowestSetBit_51 rfl hl (by decide) rfl (fun ls hl => ?_)
        have hl : lv_has ls 3 [(2, .int (nI (d ((n - 1 - i) + o)))), (1, .int (nI (n - 1 - i))), (0, .ref a)] := hl
        refine lv_iload_n hx hb dJ24_getLowestSetBit_52 rfl (lv_at hl 0 rfl) ?_
        refine lv_if_ne (tgt := 58) hx hb dJ24_getLowestSetBit_53 (by decide) (fun c_53 => ?_) (fun c_53 => False.elim (by
          have c_53 := (ai_eqU (a := (d ((n - 1 - i) + o))) (b := 0) (rfl) (rfl) (hd _) (by omega)).mp c_53
          exact absurd c_53 (hxx)))
        have c_53 := mt (ai_eqU (a := (d ((n - 1 - i) + o))) (b := 0) (rfl) (rfl) (hd _) (by omega)).mpr c_53
        refine lv_aload_n hx hb dJ24_getLowestSetBit_58 rfl (lv_at hl 2 rfl) ?_
        refine gw_get (C := RJ24) (T := TJ24) (N := 3) (v := .int (nI n)) hx hb hts in_J24 hown hal hO 1 (by decide) (hts _ q980) (fun _ h9 => h9) rfl dJ24_getLowestSetBit_59 ?_
        refine lv_iconst (v := 1) hx hb dJ24_getLowestSetBit_62 (by decide) ?_
        refine lv_isub hx hb dJ24_getLowestSetBit_63 ?_
        refine g_topi (v := nI (n - 1)) (ai_sub (a := n) (b := 1) (rfl) (rfl) (by omega)) ?_
        refine lv_iload_n hx hb dJ24_getLowestSetBit_64 rfl (lv_at hl 1 rfl) ?_
        refine lv_isub hx hb dJ24_getLowestSetBit_65 ?_
        refine g_topi (v := (nI i)) ((ai_sub (a := n - 1) (b := n - 1 - i) rfl rfl (by omega)).trans (congrArg nI (by omega))) ?_
        refine lv_iconst (v := 5) hx hb dJ24_getLowestSetBit_66 (by decide) ?_
        refine lv_ishl hx hb dJ24_getLowestSetBit_67 ?_
        refine g_topi (v := nI (i * 32)) (ai_shl (rfl) 5 (by decide) rfl) ?_
        refine lv_iload_n hx hb dJ24_getLowestSetBit_68 rfl (lv_at hl 0 rfl) ?_
        obtain ⟨t, ht, hTt⟩ := tz_ex (Nat.pos_of_ne_zero hxx) (hd _)
        have hntz := ntzI_ok (hd _) (Nat.pos_of_ne_zero hxx) hTt.1 hTt.2
        refine gcS1_iP hCF hwm hl.1 (m_ntzI l z H0 (nI (d ((n - 1 - i) + o)))  ) (lw_S q1051 q388 q78 q389) yd_J17_numberOfTrailingZeros ⟨Nat.le_of_ble_eq_true rfl, Nat.le_of_ble_eq_true rfl⟩ ⟨Nat.le_of_ble_eq_true rfl, Nat.le_of_ble_eq_true rfl⟩ (Nat.le_of_ble_eq_true rfl) dJ24_getLowestSetBit_69 (fun r_1 hp => ?_)
        subst hp
        rw [hntz]
        refine lv_iadd hx hb dJ24_getLowestSetBit_72 ?_
        refine g_topi (v := nI ((i * 32) + t)) (ai_add (a := (i * 32)) (b := t) (rfl) (rfl)) ?_
        refine g_iretP hx hb hr hlocks ?_ dJ24_getLowestSetBit_73
        refine ⟨i * 32 + t, rfl, by omega, fun q => ?_⟩
        rcases Nat.eq_zero_or_pos i with e | e
        · omega
        · exact absurd (hq 0 e) q
      · skip
        have c_17 := mt (ai_le (a := (n - 1 - i)) (b := 0) (rfl) (rfl) (by omega) (by omega)).mpr c_17
        refine lv_aload_n hx hb dJ24_getLowestSetBit_20 rfl (lv_at hl 1 rfl) ?_
        refine gw_get (C := RJ24) (T := TJ24) (N := 3) (v := .ref v) hx hb hts in_J24 hown hal hO 0 (by decide) (hts _ q979) (fun _ h9 => h9) rfl dJ24_getLowestSetBit_21 ?_
        refine lv_iload_n hx hb dJ24_getLowestSetBit_24 rfl (lv_at hl 0 rfl) ?_
        refine lv_aload_n hx hb dJ24_getLowestSetBit_25 rfl (lv_at hl 1 rfl) ?_
        refine gw_get (C := RJ24) (T := TJ24) (N := 3) (v := .int (nI o)) hx hb hts in_J24 hown hal hO 2 (by decide) (hts _ q981) (fun _ h9 => h9) rfl dJ24_getLowestSetBit_26 ?_
        refine lv_iadd hx hb dJ24_getLowestSetBit_29 ?_
        refine g_topi (v := nI ((n - 1 - i) + o)) (ai_add (a := (n - 1 - i)) (b := o) (rfl) (rfl)) ?_
        refine gw_iald hx hb hal hA ((n - 1 - i) + o) (rfl) (by omega) (by omega) dJ24_getLowestSetBit_30 ?_
        refine g_topi (v := (nI (d ((n - 1 - i) + o)))) rfl ?_
        refine lv_if_ne (tgt := 40) hx hb dJ24_getLowestSetBit_31 (by decide) (fun c_31 => ?_) (fun c_31 => ?_)
        · skip
          have c_31 := mt (ai_eqU (a := (d ((n - 1 - i) + o))) (b := 0) (rfl) (rfl) (hd _) (by omega)).mpr c_31
          have hxx : d (n - 1 - i + o) ≠ 0 := by
            first | exact c_31 | (rw [show n - 1 - i + o = o by omega]; exact hd0)
          refine lv_aload_n hx hb dJ24_getLowestSetBit_40 rfl (lv_at hl 1 rfl) ?_
          refine gw_get (C := RJ24) (T := TJ24) (N := 3) (v := .ref v) hx hb hts in_J24 hown hal hO 0 (by decide) (hts _ q979) (fun _ h9 => h9) rfl dJ24_getLowestSetBit_41 ?_
          refine lv_iload_n hx hb dJ24_getLowestSetBit_44 rfl (lv_at hl 0 rfl) ?_
          refine lv_aload_n hx hb dJ24_getLowestSetBit_45 rfl (lv_at hl 1 rfl) ?_
          refine gw_get (C := RJ24) (T := TJ24) (N := 3) (v := .int (nI o)) hx hb hts in_J24 hown hal hO 2 (by decide) (hts _ q981) (fun _ h9 => h9) rfl dJ24_getLowestSetBit_46 ?_
          refine lv_iadd hx hb dJ24_getLowestSetBit_49 ?_
          refine g_topi (v := nI ((n - 1 - i) + o)) (ai_add (a := (n - 1 - i)) (b := o) (rfl) (rfl)) ?_
          refine gw_iald hx hb hal hA ((n - 1 - i) + o) (rfl) (by omega) (by omega) dJ24_getLowestSetBit_50 ?_
          refine g_topi (v := (nI (d ((n - 1 - i) + o)))) rfl ?_
          refine lv_istore_n hx hb dJ24_getLowestSetBit_51 rfl hl (by decide) rfl (fun ls hl => ?_)
          have hl : lv_has ls 3 [(2, .int (nI (d ((n - 1 - i) + o)))), (1, .int (nI (n - 1 - i))), (0, .ref a)] := hl
          refine lv_iload_n hx hb dJ24_getLowestSetBit_52 rfl (lv_at hl 0 rfl) ?_
          refine lv_if_ne (tgt := 58) hx hb dJ24_getLowestSetBit_53 (by decide) (fun c_53 => ?_) (fun c_53 => False.elim (by
            have c_53 := (ai_eqU (a := (d ((n - 1 - i) + o))) (b := 0) (rfl) (rfl) (hd _) (by omega)).mp c_53
            exact absurd c_53 (hxx)))
          have c_53 := mt (ai_eqU (a := (d ((n - 1 - i) + o))) (b := 0) (rfl) (rfl) (hd _) (by omega)).mpr c_53
          refine lv_aload_n hx hb dJ24_getLowestSetBit_58 rfl (lv_at hl 2 rfl) ?_
          refine gw_get (C := RJ24) (T := TJ24) (N := 3) (v := .int (nI n)) hx hb hts in_J24 hown hal hO 1 (by decide) (hts _ q980) (fun _ h9 => h9) rfl dJ24_getLowestSetBit_59 ?_
          refine lv_iconst (v := 1) hx hb dJ24_getLowestSetBit_62 (by decide) ?_
          refine lv_isub hx hb dJ24_getLowestSetBit_63 ?_
          refine g_topi (v := nI (n - 1)) (ai_sub (a := n) (b := 1) (rfl) (rfl) (by omega)) ?_
          refine lv_iload_n hx hb dJ24_getLowestSetBit_64 rfl (lv_at hl 1 rfl) ?_
          refine lv_isub hx hb dJ24_getLowestSetBit_65 ?_
          refine g_topi (v := (nI i)) ((ai_sub (a := n - 1) (b := n - 1 - i) rfl rfl (by omega)).trans (congrArg nI (by omega))) ?_
          refine lv_iconst (v := 5) hx hb dJ24_getLowestSetBit_66 (by decide) ?_
          refine lv_ishl hx hb dJ24_getLowestSetBit_67 ?_
          refine g_topi (v := nI (i * 32)) (ai_shl (rfl) 5 (by decide) rfl) ?_
          refine lv_iload_n hx hb dJ24_getLowestSetBit_68 rfl (lv_at hl 0 rfl) ?_
          obtain ⟨t, ht, hTt⟩ := tz_ex (Nat.pos_of_ne_zero hxx) (hd _)
          have hntz := ntzI_ok (hd _) (Nat.pos_of_ne_zero hxx) hTt.1 hTt.2
          refine gcS1_iP hCF hwm hl.1 (m_ntzI l z H0 (nI (d ((n - 1 - i) + o)))  ) (lw_S q1051 q388 q78 q389) yd_J17_numberOfTrailingZeros ⟨Nat.le_of_ble_eq_true rfl, Nat.le_of_ble_eq_true rfl⟩ ⟨Nat.le_of_ble_eq_true rfl, Nat.le_of_ble_eq_true rfl⟩ (Nat.le_of_ble_eq_true rfl) dJ24_getLowestSetBit_69 (fun r_2 hp => ?_)
          subst hp
          rw [hntz]
          refine lv_iadd hx hb dJ24_getLowestSetBit_72 ?_
          refine g_topi (v := nI ((i * 32) + t)) (ai_add (a := (i * 32)) (b := t) (rfl) (rfl)) ?_
          refine g_iretP hx hb hr hlocks ?_ dJ24_getLowestSetBit_73
          refine ⟨i * 32 + t, rfl, by omega, fun q => ?_⟩
          rcases Nat.eq_zero_or_pos i with e | e
          · omega
          · exact absurd (hq 0 e) q
        · skip
          have c_31 := (ai_eqU (a := (d ((n - 1 - i) + o))) (b := 0) (rfl) (rfl) (hd _) (by omega)).mp c_31
          have hz9 := c_31
          refine lv_iinc (k := 0) (v := (nI ((n - 1 - i) - 1))) hx hb dJ24_getLowestSetBit_34 hl rfl (ai_sbn (a := (n - 1 - i)) (b := 1) (rfl) (show Int32.ofInt (-1) = -nI 1 by decide) (by omega)) (by decide) rfl (fun ls hl => ?_)
          have hl : lv_has ls 3 [(1, .int (nI ((n - 1 - i) - 1))), (0, .ref a)] := hl
          refine lv_goto (tgt := 16) hx hb dJ24_getLowestSetBit_37 (by decide) ?_
          exact ih_loopA (i + 1) (by omega) (fun j hj => by rcases Nat.lt_or_ge j i with q | q; exact hq j q; rw [show j = i by omega, show o + (n - 1 - i) = n - 1 - i + o by omega]; exact hz9) (by omega) ls (lv_sub hl [0, 1] rfl)
  exact loopA _ 0 (by omega) (fun j hj => by omega) (Nat.lt_succ_self _) ls (lv_sub hl [0, 1] rfl)
set_option maxHeartbeats 1000000 in
theorem m_mInitM (l : Launch) (z : State) (H0 : Heap) (a : Nat) (b : Nat) (v n o nv : Nat) (w wv : Bool) (d : Nat → Nat) (hzw : zW z) (hba : b ≠ a) (hon : o + n ≤ nv) (hnv9 : nv < 1000000) (hd : ∀ i, d i < 4294967296) (hO : gO z true RJ24 TJ24 3 H0 a [.null, .int 0, .int 0]) (hB : gO z w RJ24 TJ24 3 H0 b [.ref v, .int (nI n), .int (nI o)]) (hA : gI z wv .int H0 v nv (dI d)) (hE : gE z .int H0 v nv) : Met l yJ24_init_3 (ws_ yJ24_init_3 cJ24_init_3 2 (none)) { frames := 3, cells := 1, slots := n, locals := 86 } (gPc z H0 [.ref a, .ref b]) (gRv (fun q => q = a ∨ H0.size ≤ q) H0 (fun H1 => ∃ v1, H0.size ≤ v1 ∧ gO z true RJ24 TJ24 3 H1 a [.ref v1, .int (nI n), .int 0] ∧ gI z true .int H1 v1 n (dI (fun i => d (o + i))))) 1 n (fun q => q = a ∨ H0.size ≤ q) := by
  refine g_start (by decide +kernel) (Nat.le_of_ble_eq_true rfl) ?_
  intro p e s m below meth c ls hx hb hr hlocks hml hown hname hts hwm hl
  have hown : s.vm.findClass "java/math/MutableBigInteger" = some m.cls := hown
  have hal : z.vm.Alike s.vm := hwm.alike
  have hCF : CallFix p m c cJ24_init_3 2 s [.ref a, .ref b].toArray lw_all "java/math/MutableBigInteger" := ⟨hx, hb, hml, hown, hts⟩
  have hl : lv_has ls 2 [(0, .ref a), (1, .ref b)] := hl
  have hS : va_S (fun q => q = a ∨ H0.size ≤ q) H0 H0 [] := va_S.rf
  have hEl := hE.lt
  have hva : v ≠ a := Ne.symm (gA.neO2 hal hA hO (hts _ q974))
  have lt_a := hO.lt
  have lt_b := hB.lt
  have lt_v := hA.lt
  refine lv_aload_n hx hb dJ24_init_3_0 rfl (lv_at hl 0 rfl) ?_
  refine W.objInit hx hb hown (hts _ q978) (hts _ q110) (hts _ q111) rfl (by rw [hml]; exact hl.1) rfl dJ24_init_3_1 (Nat.le_of_ble_eq_true rfl) (Nat.le_of_ble_eq_true rfl) ?_
  refine W.eq (g2 := F0 m 4 ls []) rfl ?_
  refine lv_aload_n hx hb dJ24_init_3_4 rfl (lv_at hl 0 rfl) ?_
  refine lv_iconst (v := 0) hx hb dJ24_init_3_5 (by decide) ?_
  refine gw_put (C := RJ24) (T := TJ24) (N := 3) (ty := .int) (v := .int 0) hx hb hts in_J24 tyJ24 tyJ24_ok nmJ24 (hts _ q974) hown hal hO hS (by have hsz := hS.1; (try dsimp only [gfr]) <;> omega) 2 (by decide) (hts _ q981) (fun _ h9 => h9) rfl (by decide +kernel) (rfl) (rfl) (Nat.le_of_ble_eq_true rfl) dJ24_init_3_6 (fun H_1 locs h_new hch hS => ?_)
  have hB := hB.ch hch (by omega)
  have hA := hA.ch hch (by omega)
  have sz_H_1 := hch.1
  clear hch
  have hO : gO z true RJ24 TJ24 3 H_1 a [.null, .int 0, .int 0] := h_new
  refine lv_aload_n hx hb dJ24_init_3_9 rfl (lv_at hl 0 rfl) ?_
  refine lv_aload_n hx hb dJ24_init_3_10 rfl (lv_at hl 1 rfl) ?_
  refine gw_get (C := RJ24) (T := TJ24) (N := 3) (v := .int (nI n)) hx hb hts in_J24 hown hal hB 1 (by decide) (hts _ q980) (fun _ h9 => h9) rfl dJ24_init_3_11 ?_
  refine gw_put (C := RJ24) (T := TJ24) (N := 3) (ty := .int) (v := .int (nI n)) hx hb hts in_J24 tyJ24 tyJ24_ok nmJ24 (hts _ q974) hown hal hO hS (by have hsz := hS.1; (try dsimp only [gfr]) <;> omega) 1 (by decide) (hts _ q980) (fun _ h9 => h9) rfl (by decide +kernel) (rfl) (rfl) (Nat.le_of_ble_eq_true rfl) dJ24_init_3_14 (fun H_2 locs h_new hch hS => ?_)
  have hB := hB.ch hch (by omega)
  have hA := hA.ch hch (by omega)
  have sz_H_2 := hch.1
  clear hch
  have hO : gO z true RJ24 TJ24 3 H_2 a [.null, .int (nI n), .int 0] := h_new
  refine lv_aload_n hx hb dJ24_init_3_17 rfl (lv_at hl 0 rfl) ?_
  refine lv_aload_n hx hb dJ24_init_3_18 rfl (lv_at hl 1 rfl) ?_
  refine gw_get (C := RJ24) (T := TJ24) (N := 3) (v := .ref v) hx hb hts in_J24 hown hal hB 0 (by decide) (hts _ q979) (fun _ h9 => h9) rfl dJ24_init_3_19 ?_
  refine lv_aload_n hx hb dJ24_init_3_22 rfl (lv_at hl 1 rfl) ?_
  refine gw_get (C := RJ24) (T := TJ24) (N := 3) (v := .int (nI o)) hx hb hts in_J24 hown hal hB 2 (by decide) (hts _ q981) (fun _ h9 => h9) rfl dJ24_init_3_23 ?_
  refine lv_aload_n hx hb dJ24_init_3_26 rfl (lv_at hl 1 rfl) ?_
  refine gw_get (C := RJ24) (T := TJ24) (N := 3) (v := .int (nI o)) hx hb hts in_J24 hown hal hB 2 (by decide) (hts _ q981) (fun _ h9 => h9) rfl dJ24_init_3_27 ?_
  refine lv_aload_n hx hb dJ24_init_3_30 rfl (lv_at hl 0 rfl) ?_
  refine gw_get (C := RJ24) (T := TJ24) (N := 3) (v := .int (nI n)) hx hb hts in_J24 hown hal hO 1 (by decide) (hts _ q980) (fun _ h9 => h9) rfl dJ24_init_3_31 ?_
  refine lv_iadd hx hb dJ24_init_3_34 ?_
  refine g_topi (v := nI (o + n)) (ai_add (a := o) (b := n) (rfl) (rfl)) ?_
  have hsz := hS.1
  refine gcS3_r hCF hwm hl.1 (m_copyRangeE l z H_2 v o (o + n) nv wv d (by omega) (by omega) (by omega) hA (hE.cur hS (by (try dsimp only [gfr]) <;> omega)) hzw ) (lw_S q1016 q1017 q73 q1018) yd_J13_copyOfRange_2 hS (fun q h => by have hsz := hS.1; (try dsimp only [gfr] at h ⊢) <;> omega) ⟨Nat.le_of_ble_eq_true rfl, Nat.le_of_ble_eq_true rfl⟩ ⟨by first | omega | (dsimp only; omega), by first | omega | (dsimp only; omega)⟩ (Nat.le_of_ble_eq_true rfl) dJ24_init_3_35 (fun rc H_3 locs hp hex hS => ?_)
  have sz_H_3 : H_2.size ≤ H_3.size := hex.1
  have hgx := hex.x
  clear hex
  have hO := hO.x hgx
  have hB := hB.x hgx
  have hA := hA.x hgx
  obtain ⟨hcp1, hcp2⟩ := hp
  rw [show o + n - o = n by omega] at hcp2
  have lt_rc := hcp2.lt
  refine gw_put (C := RJ24) (T := TJ24) (N := 3) (ty := (.array .int)) (v := .ref rc) hx hb hts in_J24 tyJ24 tyJ24_ok nmJ24 (hts _ q974) hown hal hO hS (by have hsz := hS.1; (try dsimp only [gfr]) <;> omega) 0 (by decide) (hts _ q979) (fun _ h9 => h9) rfl (by decide +kernel) (rfl) (rfl) (Nat.le_of_ble_eq_true rfl) dJ24_init_3_38 (fun H_4 locs h_new hch hS => ?_)
  have hB := hB.ch hch (by omega)
  have hA := hA.ch hch (by omega)
  have hcp2 := hcp2.ch hch (by omega)
  have sz_H_4 := hch.1
  clear hch
  have hO : gO z true RJ24 TJ24 3 H_4 a [.ref rc, .int (nI n), .int 0] := h_new
  refine g_vret hx hb hr hlocks hS (by first | omega | (dsimp only; omega)) (by first | omega | (dsimp only; omega)) ?_ dJ24_init_3_41
  exact ⟨rc, by omega, hO, hcp2⟩
set_option maxHeartbeats 1000000 in
theorem m_mShl (l : Launch) (z : State) (H0 : Heap) (a : Nat) (v n nv s0 : Nat) (d : Nat → Nat) (hn0 : 0 < n) (hs0 : 0 < s0) (hs : s0 < 32) (hav : v ≠ a) (hon : n ≤ nv) (hnv9 : nv < 1000000) (hd : ∀ i, d i < 4294967296) (hO : gO z true RJ24 TJ24 3 H0 a [.ref v, .int (nI n), .int 0]) (hA : gI z true .int H0 v nv (dI d)) : Met l yJ24_primitiveLeftShift (ws_ yJ24_primitiveLeftShift cJ24_primitiveLeftShift 8 (none)) { frames := 0, cells := 0, slots := 0, locals := 0 } (gPc z H0 [.ref a, .int (nI s0)]) (gRv (fun q => q = v) H0 (fun H1 => ∃ gg, (∀ i, gg i < 4294967296) ∧ seg gg 0 n = seg (shl (fun j => d (0 + j)) s0 n) 0 n ∧ gI z true .int H1 v nv (dI gg))) 0 0 (fun q => q = v) := by
  refine g_start (by decide +kernel) (Nat.le_of_ble_eq_true rfl) ?_
  intro p e s m below meth c ls hx hb hr hlocks hml hown hname hts hwm hl
  have hown : s.vm.findClass "java/math/MutableBigInteger" = some m.cls := hown
  have hal : z.vm.Alike s.vm := hwm.alike
  have hCF : CallFix p m c cJ24_primitiveLeftShift 8 s [.ref a, .int (nI s0)].toArray lw_all "java/math/MutableBigInteger" := ⟨hx, hb, hml, hown, hts⟩
  have hl : lv_has ls 8 [(0, .ref a), (1, .int (nI s0))] := hl
  have hS : va_S (fun q => q = v) H0 H0 [] := va_S.rf
  have hdd : ∀ j, (fun j => d (0 + j)) j < 4294967296 := fun j => hd (0 + j)
  have lt_a := hO.lt
  have lt_v := hA.lt
  refine lv_aload_n hx hb dJ24_primitiveLeftShift_0 rfl (lv_at hl 0 rfl) ?_
  refine gw_get (C := RJ24) (T := TJ24) (N := 3) (v := .ref v) hx hb hts in_J24 hown hal hO 0 (by decide) (hts _ q979) (fun _ h9 => h9) rfl dJ24_primitiveLeftShift_1 ?_
  refine lv_astore_n hx hb dJ24_primitiveLeftShift_4 rfl hl (by decide) rfl (fun ls hl => ?_)
  have hl : lv_has ls 8 [(2, .ref v), (0, .ref a), (1, .int (nI s0))] := hl
  refine lv_bipush (v := 32) hx hb dJ24_primitiveLeftShift_5 (by decide) ?_
  refine lv_iload_n hx hb dJ24_primitiveLeftShift_7 rfl (lv_at hl 2 rfl) ?_
  refine lv_isub hx hb dJ24_primitiveLeftShift_8 ?_
  refine g_topi (v := nI (32 - s0)) (ai_sub (a := 32) (b := s0) (rfl) (rfl) (by omega)) ?_
  refine lv_istore_n hx hb dJ24_primitiveLeftShift_9 rfl hl (by decide) rfl (fun ls hl => ?_)
  have hl : lv_has ls 8 [(3, .int (nI (32 - s0))), (2, .ref v), (0, .ref a), (1, .int (nI s0))] := hl
  refine lv_aload_n hx hb dJ24_primitiveLeftShift_10 rfl (lv_at hl 2 rfl) ?_
  refine gw_get (C := RJ24) (T := TJ24) (N := 3) (v := .int 0) hx hb hts in_J24 hown hal hO 2 (by decide) (hts _ q981) (fun _ h9 => h9) rfl dJ24_primitiveLeftShift_11 ?_
  refine lv_istore hx hb dJ24_primitiveLeftShift_14 hl (by decide) rfl (fun ls hl => ?_)
  have hl : lv_has ls 8 [(4, .int 0), (3, .int (nI (32 - s0))), (2, .ref v), (0, .ref a), (1, .int (nI s0))] := hl
  refine lv_aload_n hx hb dJ24_primitiveLeftShift_16 rfl (lv_at hl 2 rfl) ?_
  refine lv_iload hx hb dJ24_primitiveLeftShift_17 (lv_at hl 0 rfl) ?_
  refine gw_iald hx hb hal hA 0 (rfl) (by omega) (by omega) dJ24_primitiveLeftShift_19 ?_
  refine g_topi (v := (nI (d 0))) rfl ?_
  refine lv_istore hx hb dJ24_primitiveLeftShift_20 hl (by decide) rfl (fun ls hl => ?_)
  have hl : lv_has ls 8 [(5, .int (nI (d 0))), (4, .int 0), (3, .int (nI (32 - s0))), (2, .ref v), (0, .ref a), (1, .int (nI s0))] := hl
  refine lv_iload hx hb dJ24_primitiveLeftShift_22 (lv_at hl 1 rfl) ?_
  refine lv_aload_n hx hb dJ24_primitiveLeftShift_24 rfl (lv_at hl 4 rfl) ?_
  refine gw_get (C := RJ24) (T := TJ24) (N := 3) (v := .int (nI n)) hx hb hts in_J24 hown hal hO 1 (by decide) (hts _ q980) (fun _ h9 => h9) rfl dJ24_primitiveLeftShift_25 ?_
  refine lv_iadd hx hb dJ24_primitiveLeftShift_28 ?_
  refine g_topi (v := nI n) (ai_add0l (b := n) (rfl) (rfl)) ?_
  refine lv_iconst (v := 1) hx hb dJ24_primitiveLeftShift_29 (by decide) ?_
  refine lv_isub hx hb dJ24_primitiveLeftShift_30 ?_
  refine g_topi (v := nI (n - 1)) (ai_sub (a := n) (b := 1) (rfl) (rfl) (by omega)) ?_
  refine lv_istore hx hb dJ24_primitiveLeftShift_31 hl (by decide) rfl (fun ls hl => ?_)
  have hl : lv_has ls 8 [(6, .int (nI (n - 1))), (5, .int (nI (d 0))), (4, .int 0), (3, .int (nI (32 - s0))), (2, .ref v), (0, .ref a), (1, .int (nI s0))] := hl
  have e_fit : d = (wk (fun j => d (0 + j)) d 0 s0 0) := by
    exact (wk_0 _ d 0 s0).symm
  replace hA : gI z true .int H0 v nv (dI (wk (fun j => d (0 + j)) d 0 s0 0)) := by
    rw [← e_fit]
    exact hA
  clear e_fit
  replace hl : lv_has ls 8 [(6, .int (nI (n - 1))), (5, .int (nI (d (0 + 0)))), (4, .int 0), (3, .int (nI (32 - s0))), (2, .ref v), (0, .ref a), (1, .int (nI s0))] := by
    exact hl
  have loopA : ∀ (n_ : Nat) (i : Nat), (i ≤ n - 1) → (n - i) < n_ → ∀ (H_1 : Heap) (locs : List Loc), va_S (fun q => q = v) H0 H_1 locs → gO z true RJ24 TJ24 3 H_1 a [.ref v, .int (nI n), .int 0] → gI z true .int H_1 v nv (dI (wk (fun j => d (0 + j)) d 0 s0 i)) → ∀ (ls : Array Slot), lv_has ls 8 [(6, .int (nI (n - 1))), (5, .int (nI (d (0 + i)))), (4, .int (nI i)), (3, .int (nI (32 - s0))), (2, .ref v), (0, .ref a), (1, .int (nI s0))] → W p l e { frames := 0, cells := 0, slots := 0, locals := 0 } s m [.ref a, .int (nI s0)].toArray below meth c H_1 locs 0 0 (MQ below (gRv (fun q => q = v) H0 (fun H1 => ∃ gg, (∀ i, gg i < 4294967296) ∧ seg gg 0 n = seg (shl (fun j => d (0 + j)) s0 n) 0 n ∧ gI z true .int H1 v nv (dI gg))) [.ref a, .int (nI s0)].toArray s 0 0 (fun q => q = v)) (F0 m 33 ls []) := by
    intro n_
    induction n_ with
    | zero => intro i hi hm_; exact absurd hm_ (Nat.not_lt_zero _)
    | succ n_ ih_loopA =>
      intro i hi hm_ H_1 locs hS hO hA ls hl
      refine lv_iload hx hb dJ24_primitiveLeftShift_33 (lv_at hl 2 rfl) ?_
      refine lv_iload hx hb dJ24_primitiveLeftShift_35 (lv_at hl 0 rfl) ?_
      refine lv_icmp_ge (tgt := 71) hx hb dJ24_primitiveLeftShift_37 (by decide) (fun c_37 => ?_) (fun c_37 => ?_)
      · skip
        have c_37 := (ai_le (a := (n - 1)) (b := i) (rfl) (rfl) (by omega) (by omega)).mp c_37
        have e_fit : (wk (fun j => d (0 + j)) d 0 s0 i) = (wk (fun j => d (0 + j)) d 0 s0 (n - 1)) := by
          rw [show i = n - 1 by omega]
        replace hA : gI z true .int H_1 v nv (dI (wk (fun j => d (0 + j)) d 0 s0 (n - 1))) := by
          rw [← e_fit]
          exact hA
        clear e_fit
        refine lv_aload_n hx hb dJ24_primitiveLeftShift_71 rfl (lv_at hl 4 rfl) ?_
        refine lv_aload_n hx hb dJ24_primitiveLeftShift_72 rfl (lv_at hl 5 rfl) ?_
        refine gw_get (C := RJ24) (T := TJ24) (N := 3) (v := .int 0) hx hb hts in_J24 hown hal hO 2 (by decide) (hts _ q981) (fun _ h9 => h9) rfl dJ24_primitiveLeftShift_73 ?_
        refine lv_aload_n hx hb dJ24_primitiveLeftShift_76 rfl (lv_at hl 5 rfl) ?_
        refine gw_get (C := RJ24) (T := TJ24) (N := 3) (v := .int (nI n)) hx hb hts in_J24 hown hal hO 1 (by decide) (hts _ q980) (fun _ h9 => h9) rfl dJ24_primitiveLeftShift_77 ?_
        refine lv_iadd hx hb dJ24_primitiveLeftShift_80 ?_
        refine g_topi (v := nI n) (ai_add0l (b := n) (rfl) (rfl)) ?_
        refine lv_iconst (v := 1) hx hb dJ24_primitiveLeftShift_81 (by decide) ?_
        refine lv_isub hx hb dJ24_primitiveLeftShift_82 ?_
        refine g_topi (v := nI (n - 1)) (ai_sub (a := n) (b := 1) (rfl) (rfl) (by omega)) ?_
        refine lv_dup2_11 hx hb dJ24_primitiveLeftShift_83 rfl rfl ?_
        refine gw_iald hx hb hal hA (n - 1) (rfl) (by omega) (by omega) dJ24_primitiveLeftShift_84 ?_
        refine g_topi (v := (nI ((wk (fun j => d (0 + j)) d 0 s0 (n - 1)) (n - 1)))) rfl ?_
        refine g_topi (v := (nI (d (0 + (n - 1))))) ?_ ?_
        · skip
          exact congrArg nI (by unfold wk; rw [if_neg (by omega), Nat.zero_add])
        refine lv_iload_n hx hb dJ24_primitiveLeftShift_85 rfl (lv_at hl 6 rfl) ?_
        refine lv_ishl hx hb dJ24_primitiveLeftShift_86 ?_
        refine g_topi (v := nI ((d (0 + (n - 1))) * 2 ^ s0)) (ai_shlv (a := (d (0 + (n - 1)))) (k := s0) (rfl) (rfl) (by omega)) ?_
        refine gw_iast (f := (dI (wk (fun j => d (0 + j)) d 0 s0 (n - 1)))) hx hb hal hA hS (by have hsz := hS.1; (try dsimp only [gfr]) <;> omega) (n - 1) (rfl) (by omega) (by omega) dJ24_primitiveLeftShift_87 (fun H_2 locs h_new hch hS => ?_)
        have hO := hO.ch hch (by omega)
        have sz_H_2 := hch.1
        clear hch
        have hA : gI z true .int H_2 v nv (upd (dI (wk (fun j => d (0 + j)) d 0 s0 (n - 1))) (n - 1) (nI ((d (0 + (n - 1))) * 2 ^ s0))) := h_new
        replace hA : gI z true .int H_2 v nv (dI (dup (wk (fun j => d (0 + j)) d 0 s0 (n - 1)) (n - 1) (((d (0 + (n - 1))) * 2 ^ s0) % 4294967296))) := by
          have q := hA
          rw [dI_put] at q
          exact q
        have bd_3 : ∀ ix, (dup (wk (fun j => d (0 + j)) d 0 s0 (n - 1)) (n - 1) (((d (0 + (n - 1))) * 2 ^ s0) % 4294967296)) ix < 4294967296 := dup_lt (wk_lt hdd hd hs hs0) (Nat.mod_lt _ (by decide))
        refine g_vret hx hb hr hlocks hS (Nat.le_of_ble_eq_true rfl) (Nat.le_of_ble_eq_true rfl) ?_ dJ24_primitiveLeftShift_88
        have q9 := wk_seg (d := (fun j => d (0 + j))) (g := d) (o := 0) (s := s0) hn0
        rw [Nat.zero_add] at q9
        exact ⟨_, bd_3, q9, hA⟩
      · skip
        have c_37 := mt (ai_le (a := (n - 1)) (b := i) (rfl) (rfl) (by omega) (by omega)).mpr c_37
        refine lv_iload hx hb dJ24_primitiveLeftShift_40 (lv_at hl 1 rfl) ?_
        refine lv_istore hx hb dJ24_primitiveLeftShift_42 hl (by decide) rfl (fun ls hl => ?_)
        have hl : lv_has ls 8 [(7, .int (nI (d (0 + i)))), (6, .int (nI (n - 1))), (5, .int (nI (d (0 + i)))), (4, .int (nI i)), (3, .int (nI (32 - s0))), (2, .ref v), (0, .ref a), (1, .int (nI s0))] := hl
        refine lv_aload_n hx hb dJ24_primitiveLeftShift_44 rfl (lv_at hl 5 rfl) ?_
        refine lv_iload hx hb dJ24_primitiveLeftShift_45 (lv_at hl 3 rfl) ?_
        refine lv_iconst (v := 1) hx hb dJ24_primitiveLeftShift_47 (by decide) ?_
        refine lv_iadd hx hb dJ24_primitiveLeftShift_48 ?_
        refine g_topi (v := nI (i + 1)) (ai_add (a := i) (b := 1) (rfl) (rfl)) ?_
        refine gw_iald hx hb hal hA (i + 1) (rfl) (by omega) (by omega) dJ24_primitiveLeftShift_49 ?_
        refine g_topi (v := (nI ((wk (fun j => d (0 + j)) d 0 s0 i) (i + 1)))) rfl ?_
        refine g_topi (v := (nI (d (0 + (i + 1))))) ?_ ?_
        · skip
          exact congrArg nI (by unfold wk; rw [if_neg (by omega), Nat.zero_add])
        refine lv_istore hx hb dJ24_primitiveLeftShift_50 hl (by decide) rfl (fun ls hl => ?_)
        have hl : lv_has ls 8 [(5, .int (nI (d (0 + (i + 1))))), (7, .int (nI (d (0 + i)))), (6, .int (nI (n - 1))), (4, .int (nI i)), (3, .int (nI (32 - s0))), (2, .ref v), (0, .ref a), (1, .int (nI s0))] := hl
        refine lv_aload_n hx hb dJ24_primitiveLeftShift_52 rfl (lv_at hl 5 rfl) ?_
        refine lv_iload hx hb dJ24_primitiveLeftShift_53 (lv_at hl 3 rfl) ?_
        refine lv_iload hx hb dJ24_primitiveLeftShift_55 (lv_at hl 1 rfl) ?_
        refine lv_iload_n hx hb dJ24_primitiveLeftShift_57 rfl (lv_at hl 7 rfl) ?_
        refine lv_ishl hx hb dJ24_primitiveLeftShift_58 ?_
        refine g_topi (v := nI ((d (0 + i)) * 2 ^ s0)) (ai_shlv (a := (d (0 + i))) (k := s0) (rfl) (rfl) (by omega)) ?_
        have hq1 := hd (0 + (i + 1))
        refine lv_iload hx hb dJ24_primitiveLeftShift_59 (lv_at hl 0 rfl) ?_
        refine lv_iload_n hx hb dJ24_primitiveLeftShift_61 rfl (lv_at hl 4 rfl) ?_
        refine lv_iushr hx hb dJ24_primitiveLeftShift_62 rfl ?_
        refine g_topi (v := nI ((d (0 + (i + 1))) / 2 ^ (32 - s0))) (ai_ushr (a := (d (0 + (i + 1)))) (k := (32 - s0)) (rfl) (rfl) (by omega) (by omega)) ?_
        refine lv_ior hx hb dJ24_primitiveLeftShift_63 ?_
        refine g_topi (v := (nI ((d (0 + i) * 2 ^ s0) % 4294967296 + d (0 + (i + 1)) / 2 ^ (32 - s0)))) ((sh_dig hs hs0 (hd (0 + (i + 1)))).1) ?_
        refine gw_iast (f := (dI (wk (fun j => d (0 + j)) d 0 s0 i))) hx hb hal hA hS (by have hsz := hS.1; (try dsimp only [gfr]) <;> omega) i (rfl) (by omega) (by omega) dJ24_primitiveLeftShift_64 (fun H_4 locs h_new hch hS => ?_)
        have hO := hO.ch hch (by omega)
        have sz_H_4 := hch.1
        clear hch
        have hA : gI z true .int H_4 v nv (upd (dI (wk (fun j => d (0 + j)) d 0 s0 i)) i (nI ((d (0 + i) * 2 ^ s0) % 4294967296 + d (0 + (i + 1)) / 2 ^ (32 - s0)))) := h_new
        replace hA : gI z true .int H_4 v nv (dI (dup (wk (fun j => d (0 + j)) d 0 s0 i) i (((d (0 + i) * 2 ^ s0) % 4294967296 + d (0 + (i + 1)) / 2 ^ (32 - s0)) % 4294967296))) := by
          have q := hA
          rw [dI_put] at q
          exact q
        have bd_5 : ∀ ix, (dup (wk (fun j => d (0 + j)) d 0 s0 i) i (((d (0 + i) * 2 ^ s0) % 4294967296 + d (0 + (i + 1)) / 2 ^ (32 - s0)) % 4294967296)) ix < 4294967296 := dup_lt (wk_lt hdd hd hs hs0) (Nat.mod_lt _ (by decide))
        refine lv_iinc (k := 3) (v := (nI (i + 1))) hx hb dJ24_primitiveLeftShift_65 hl rfl (ai_add (a := i) (b := 1) (rfl) (show Int32.ofInt 1 = nI 1 by decide)) (by decide) rfl (fun ls hl => ?_)
        have hl : lv_has ls 8 [(4, .int (nI (i + 1))), (5, .int (nI (d (0 + (i + 1))))), (7, .int (nI (d (0 + i)))), (6, .int (nI (n - 1))), (3, .int (nI (32 - s0))), (2, .ref v), (0, .ref a), (1, .int (nI s0))] := hl
        refine lv_goto (tgt := 33) hx hb dJ24_primitiveLeftShift_68 (by decide) ?_
        have e_fit : (dup (wk (fun j => d (0 + j)) d 0 s0 i) i (((d (0 + i) * 2 ^ s0) % 4294967296 + d (0 + (i + 1)) / 2 ^ (32 - s0)) % 4294967296)) = (wk (fun j => d (0 + j)) d 0 s0 (i + 1)) := by
          have q := wk_s (g := d) (o := 0) (t := i) hdd hs hs0
          simpa only [Nat.zero_add] using q
        replace hA : gI z true .int H_4 v nv (dI (wk (fun j => d (0 + j)) d 0 s0 (i + 1))) := by
          rw [← e_fit]
          exact hA
        clear e_fit
        replace hl : lv_has ls 8 [(4, .int (nI (i + 1))), (5, .int (nI (d (0 + (i + 1))))), (7, .int (nI (d (0 + i)))), (6, .int (nI (n - 1))), (3, .int (nI (32 - s0))), (2, .ref v), (0, .ref a), (1, .int (nI s0))] := by
          exact hl
        exact ih_loopA (i + 1) (by omega) (by omega) H_4 _ hS hO hA ls (lv_sub hl [3, 1, 0, 4, 5, 6, 7] rfl)
  exact loopA _ 0 (Nat.zero_le _) (Nat.lt_succ_self _) H0 _ hS hO hA ls (lv_sub hl [0, 1, 2, 3, 4, 5, 6] rfl)
