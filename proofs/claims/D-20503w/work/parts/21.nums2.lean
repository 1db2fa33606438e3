/-! ## walks (written by tools) -/
set_option maxRecDepth 100000
def dkwX1_offsetOf_1 : List UInt8 := [184, 0, 74, 101, 136, 172]
abbrev dktX1_offsetOf_1 : List UInt8 := dkwX1_offsetOf_1 ++ []
def dkwX1_offsetOf_0 : List UInt8 := [38, 184, 0, 54, 184, 0, 82, 61, 28, 2, 160, 0, 9, 17, 216, 241, 167, 0, 13, 38, 184, 0, 54, 28]
abbrev dktX1_offsetOf_0 : List UInt8 := dkwX1_offsetOf_0 ++ dktX1_offsetOf_1
theorem dksX1_offsetOf_0 : cX1_offsetOf.data.toList.drop 0 = dktX1_offsetOf_0 := by decide +kernel
theorem dksX1_offsetOf_1 : cX1_offsetOf.data.toList.drop 24 = dktX1_offsetOf_1 := dk_seg dksX1_offsetOf_0 24 rfl rfl
theorem dX1_offsetOf_0 : decode cX1_offsetOf 0 = .ok (.dload_n 0, 1) := dk_38 (dk_at dksX1_offsetOf_0 0 rfl rfl)
theorem dX1_offsetOf_1 : decode cX1_offsetOf 1 = .ok (.invokestatic 54, 3) := dk_184 0 54 (dk_at dksX1_offsetOf_0 1 rfl rfl)
theorem dX1_offsetOf_4 : decode cX1_offsetOf 4 = .ok (.invokestatic 82, 3) := dk_184 0 82 (dk_at dksX1_offsetOf_0 4 rfl rfl)
theorem dX1_offsetOf_7 : decode cX1_offsetOf 7 = .ok (.istore_n 2, 1) := dk_61 (dk_at dksX1_offsetOf_0 7 rfl rfl)
theorem dX1_offsetOf_8 : decode cX1_offsetOf 8 = .ok (.iload_n 2, 1) := dk_28 (dk_at dksX1_offsetOf_0 8 rfl rfl)
theorem dX1_offsetOf_9 : decode cX1_offsetOf 9 = .ok (.iconst (-1), 1) := dk_2 (dk_at dksX1_offsetOf_0 9 rfl rfl)
theorem dX1_offsetOf_10 : decode cX1_offsetOf 10 = .ok (.if_icmp .ne 9, 3) := dk_160 0 9 (dk_at dksX1_offsetOf_0 10 rfl rfl)
theorem dX1_offsetOf_13 : decode cX1_offsetOf 13 = .ok (.sipush (-9999), 3) := dk_17 216 241 (dk_at dksX1_offsetOf_0 13 rfl rfl)
theorem dX1_offsetOf_16 : decode cX1_offsetOf 16 = .ok (.goto 13, 3) := dk_167 0 13 (dk_at dksX1_offsetOf_0 16 rfl rfl)
theorem dX1_offsetOf_19 : decode cX1_offsetOf 19 = .ok (.dload_n 0, 1) := dk_38 (dk_at dksX1_offsetOf_0 19 rfl rfl)
theorem dX1_offsetOf_20 : decode cX1_offsetOf 20 = .ok (.invokestatic 54, 3) := dk_184 0 54 (dk_at dksX1_offsetOf_0 20 rfl rfl)
theorem dX1_offsetOf_23 : decode cX1_offsetOf 23 = .ok (.iload_n 2, 1) := dk_28 (dk_at dksX1_offsetOf_0 23 rfl rfl)
theorem dX1_offsetOf_24 : decode cX1_offsetOf 24 = .ok (.invokestatic 74, 3) := dk_184 0 74 (dk_at dksX1_offsetOf_1 0 rfl rfl)
theorem dX1_offsetOf_27 : decode cX1_offsetOf 27 = .ok (.lsub, 1) := dk_101 (dk_at dksX1_offsetOf_1 3 rfl rfl)
theorem dX1_offsetOf_28 : decode cX1_offsetOf 28 = .ok (.l2i, 1) := dk_136 (dk_at dksX1_offsetOf_1 4 rfl rfl)
theorem dX1_offsetOf_29 : decode cX1_offsetOf 29 = .ok (.ireturn, 1) := dk_172 (dk_at dksX1_offsetOf_1 5 rfl rfl)
def dkwX1_isOfSet_0 : List UInt8 := [38, 184, 0, 54, 184, 0, 82, 2, 159, 0, 7, 4, 167, 0, 4, 3, 172]
abbrev dktX1_isOfSet_0 : List UInt8 := dkwX1_isOfSet_0 ++ []
theorem dksX1_isOfSet_0 : cX1_isOfSet.data.toList.drop 0 = dktX1_isOfSet_0 := by decide +kernel
theorem dX1_isOfSet_0 : decode cX1_isOfSet 0 = .ok (.dload_n 0, 1) := dk_38 (dk_at dksX1_isOfSet_0 0 rfl rfl)
theorem dX1_isOfSet_1 : decode cX1_isOfSet 1 = .ok (.invokestatic 54, 3) := dk_184 0 54 (dk_at dksX1_isOfSet_0 1 rfl rfl)
theorem dX1_isOfSet_4 : decode cX1_isOfSet 4 = .ok (.invokestatic 82, 3) := dk_184 0 82 (dk_at dksX1_isOfSet_0 4 rfl rfl)
theorem dX1_isOfSet_7 : decode cX1_isOfSet 7 = .ok (.iconst (-1), 1) := dk_2 (dk_at dksX1_isOfSet_0 7 rfl rfl)
theorem dX1_isOfSet_8 : decode cX1_isOfSet 8 = .ok (.if_icmp .eq 7, 3) := dk_159 0 7 (dk_at dksX1_isOfSet_0 8 rfl rfl)
theorem dX1_isOfSet_11 : decode cX1_isOfSet 11 = .ok (.iconst 1, 1) := dk_4 (dk_at dksX1_isOfSet_0 11 rfl rfl)
theorem dX1_isOfSet_12 : decode cX1_isOfSet 12 = .ok (.goto 4, 3) := dk_167 0 4 (dk_at dksX1_isOfSet_0 12 rfl rfl)
theorem dX1_isOfSet_15 : decode cX1_isOfSet 15 = .ok (.iconst 0, 1) := dk_3 (dk_at dksX1_isOfSet_0 15 rfl rfl)
theorem dX1_isOfSet_16 : decode cX1_isOfSet 16 = .ok (.ireturn, 1) := dk_172 (dk_at dksX1_isOfSet_0 16 rfl rfl)
def dkwX1_isCloseBy_0 : List UInt8 := [38, 184, 0, 86, 16, 254, 4, 184, 0, 29, 172]
abbrev dktX1_isCloseBy_0 : List UInt8 := dkwX1_isCloseBy_0 ++ []
theorem dksX1_isCloseBy_0 : cX1_isCloseBy.data.toList.drop 0 = dktX1_isCloseBy_0 := by decide +kernel
theorem dX1_isCloseBy_0 : decode cX1_isCloseBy 0 = .ok (.dload_n 0, 1) := dk_38 (dk_at dksX1_isCloseBy_0 0 rfl rfl)
theorem dX1_isCloseBy_1 : decode cX1_isCloseBy 1 = .ok (.invokestatic 86, 3) := dk_184 0 86 (dk_at dksX1_isCloseBy_0 1 rfl rfl)
theorem dX1_isCloseBy_4 : decode cX1_isCloseBy 4 = .ok (.bipush (-2), 2) := dk_16 254 (dk_at dksX1_isCloseBy_0 4 rfl rfl)
theorem dX1_isCloseBy_6 : decode cX1_isCloseBy 6 = .ok (.iconst 1, 1) := dk_4 (dk_at dksX1_isCloseBy_0 6 rfl rfl)
theorem dX1_isCloseBy_7 : decode cX1_isCloseBy 7 = .ok (.invokestatic 29, 3) := dk_184 0 29 (dk_at dksX1_isCloseBy_0 7 rfl rfl)
theorem dX1_isCloseBy_10 : decode cX1_isCloseBy 10 = .ok (.ireturn, 1) := dk_172 (dk_at dksX1_isCloseBy_0 10 rfl rfl)
def dkwX1_areAddable_1 : List UInt8 := [40, 184, 0, 93, 17, 7, 253, 163, 0, 7, 4, 167, 0, 4, 3, 172]
abbrev dktX1_areAddable_1 : List UInt8 := dkwX1_areAddable_1 ++ []
def dkwX1_areAddable_0 : List UInt8 := [38, 184, 0, 90, 153, 0, 34, 40, 184, 0, 90, 153, 0, 27, 38, 184, 0, 93, 17, 7, 253, 163, 0, 17]
abbrev dktX1_areAddable_0 : List UInt8 := dkwX1_areAddable_0 ++ dktX1_areAddable_1
theorem dksX1_areAddable_0 : cX1_areAddable.data.toList.drop 0 = dktX1_areAddable_0 := by decide +kernel
theorem dksX1_areAddable_1 : cX1_areAddable.data.toList.drop 24 = dktX1_areAddable_1 := dk_seg dksX1_areAddable_0 24 rfl rfl
theorem dX1_areAddable_0 : decode cX1_areAddable 0 = .ok (.dload_n 0, 1) := dk_38 (dk_at dksX1_areAddable_0 0 rfl rfl)
theorem dX1_areAddable_1 : decode cX1_areAddable 1 = .ok (.invokestatic 90, 3) := dk_184 0 90 (dk_at dksX1_areAddable_0 1 rfl rfl)
theorem dX1_areAddable_4 : decode cX1_areAddable 4 = .ok (.ifCond .eq 34, 3) := dk_153 0 34 (dk_at dksX1_areAddable_0 4 rfl rfl)
theorem dX1_areAddable_7 : decode cX1_areAddable 7 = .ok (.dload_n 2, 1) := dk_40 (dk_at dksX1_areAddable_0 7 rfl rfl)
theorem dX1_areAddable_8 : decode cX1_areAddable 8 = .ok (.invokestatic 90, 3) := dk_184 0 90 (dk_at dksX1_areAddable_0 8 rfl rfl)
theorem dX1_areAddable_11 : decode cX1_areAddable 11 = .ok (.ifCond .eq 27, 3) := dk_153 0 27 (dk_at dksX1_areAddable_0 11 rfl rfl)
theorem dX1_areAddable_14 : decode cX1_areAddable 14 = .ok (.dload_n 0, 1) := dk_38 (dk_at dksX1_areAddable_0 14 rfl rfl)
theorem dX1_areAddable_15 : decode cX1_areAddable 15 = .ok (.invokestatic 93, 3) := dk_184 0 93 (dk_at dksX1_areAddable_0 15 rfl rfl)
theorem dX1_areAddable_18 : decode cX1_areAddable 18 = .ok (.sipush 2045, 3) := dk_17 7 253 (dk_at dksX1_areAddable_0 18 rfl rfl)
theorem dX1_areAddable_21 : decode cX1_areAddable 21 = .ok (.if_icmp .gt 17, 3) := dk_163 0 17 (dk_at dksX1_areAddable_0 21 rfl rfl)
theorem dX1_areAddable_24 : decode cX1_areAddable 24 = .ok (.dload_n 2, 1) := dk_40 (dk_at dksX1_areAddable_1 0 rfl rfl)
theorem dX1_areAddable_25 : decode cX1_areAddable 25 = .ok (.invokestatic 93, 3) := dk_184 0 93 (dk_at dksX1_areAddable_1 1 rfl rfl)
theorem dX1_areAddable_28 : decode cX1_areAddable 28 = .ok (.sipush 2045, 3) := dk_17 7 253 (dk_at dksX1_areAddable_1 4 rfl rfl)
theorem dX1_areAddable_31 : decode cX1_areAddable 31 = .ok (.if_icmp .gt 7, 3) := dk_163 0 7 (dk_at dksX1_areAddable_1 7 rfl rfl)
theorem dX1_areAddable_34 : decode cX1_areAddable 34 = .ok (.iconst 1, 1) := dk_4 (dk_at dksX1_areAddable_1 10 rfl rfl)
theorem dX1_areAddable_35 : decode cX1_areAddable 35 = .ok (.goto 4, 3) := dk_167 0 4 (dk_at dksX1_areAddable_1 11 rfl rfl)
theorem dX1_areAddable_38 : decode cX1_areAddable 38 = .ok (.iconst 0, 1) := dk_3 (dk_at dksX1_areAddable_1 14 rfl rfl)
theorem dX1_areAddable_39 : decode cX1_areAddable 39 = .ok (.ireturn, 1) := dk_172 (dk_at dksX1_areAddable_1 15 rfl rfl)
def dkwX1_signed_0 : List UInt8 := [28, 153, 0, 8, 38, 119, 167, 0, 4, 38, 175]
abbrev dktX1_signed_0 : List UInt8 := dkwX1_signed_0 ++ []
theorem dksX1_signed_0 : cX1_signed.data.toList.drop 0 = dktX1_signed_0 := by decide +kernel
theorem dX1_signed_0 : decode cX1_signed 0 = .ok (.iload_n 2, 1) := dk_28 (dk_at dksX1_signed_0 0 rfl rfl)
theorem dX1_signed_1 : decode cX1_signed 1 = .ok (.ifCond .eq 8, 3) := dk_153 0 8 (dk_at dksX1_signed_0 1 rfl rfl)
theorem dX1_signed_4 : decode cX1_signed 4 = .ok (.dload_n 0, 1) := dk_38 (dk_at dksX1_signed_0 4 rfl rfl)
theorem dX1_signed_5 : decode cX1_signed 5 = .ok (.dneg, 1) := dk_119 (dk_at dksX1_signed_0 5 rfl rfl)
theorem dX1_signed_6 : decode cX1_signed 6 = .ok (.goto 4, 3) := dk_167 0 4 (dk_at dksX1_signed_0 6 rfl rfl)
theorem dX1_signed_9 : decode cX1_signed 9 = .ok (.dload_n 0, 1) := dk_38 (dk_at dksX1_signed_0 9 rfl rfl)
theorem dX1_signed_10 : decode cX1_signed 10 = .ok (.dreturn, 1) := dk_175 (dk_at dksX1_signed_0 10 rfl rfl)
def dkwX1_middleOf_0 : List UInt8 := [30, 4, 123, 32, 4, 123, 97, 30, 32, 127, 10, 127, 97, 173]
abbrev dktX1_middleOf_0 : List UInt8 := dkwX1_middleOf_0 ++ []
theorem dksX1_middleOf_0 : cX1_middleOf.data.toList.drop 0 = dktX1_middleOf_0 := by decide +kernel
theorem dX1_middleOf_0 : decode cX1_middleOf 0 = .ok (.lload_n 0, 1) := dk_30 (dk_at dksX1_middleOf_0 0 rfl rfl)
theorem dX1_middleOf_1 : decode cX1_middleOf 1 = .ok (.iconst 1, 1) := dk_4 (dk_at dksX1_middleOf_0 1 rfl rfl)
theorem dX1_middleOf_2 : decode cX1_middleOf 2 = .ok (.lshr, 1) := dk_123 (dk_at dksX1_middleOf_0 2 rfl rfl)
theorem dX1_middleOf_3 : decode cX1_middleOf 3 = .ok (.lload_n 2, 1) := dk_32 (dk_at dksX1_middleOf_0 3 rfl rfl)
theorem dX1_middleOf_4 : decode cX1_middleOf 4 = .ok (.iconst 1, 1) := dk_4 (dk_at dksX1_middleOf_0 4 rfl rfl)
theorem dX1_middleOf_5 : decode cX1_middleOf 5 = .ok (.lshr, 1) := dk_123 (dk_at dksX1_middleOf_0 5 rfl rfl)
theorem dX1_middleOf_6 : decode cX1_middleOf 6 = .ok (.ladd, 1) := dk_97 (dk_at dksX1_middleOf_0 6 rfl rfl)
theorem dX1_middleOf_7 : decode cX1_middleOf 7 = .ok (.lload_n 0, 1) := dk_30 (dk_at dksX1_middleOf_0 7 rfl rfl)
theorem dX1_middleOf_8 : decode cX1_middleOf 8 = .ok (.lload_n 2, 1) := dk_32 (dk_at dksX1_middleOf_0 8 rfl rfl)
theorem dX1_middleOf_9 : decode cX1_middleOf 9 = .ok (.land, 1) := dk_127 (dk_at dksX1_middleOf_0 9 rfl rfl)
theorem dX1_middleOf_10 : decode cX1_middleOf 10 = .ok (.lconst 1, 1) := dk_10 (dk_at dksX1_middleOf_0 10 rfl rfl)
theorem dX1_middleOf_11 : decode cX1_middleOf 11 = .ok (.land, 1) := dk_127 (dk_at dksX1_middleOf_0 11 rfl rfl)
theorem dX1_middleOf_12 : decode cX1_middleOf 12 = .ok (.ladd, 1) := dk_97 (dk_at dksX1_middleOf_0 12 rfl rfl)
theorem dX1_middleOf_13 : decode cX1_middleOf 13 = .ok (.lreturn, 1) := dk_173 (dk_at dksX1_middleOf_0 13 rfl rfl)
def dkwX1_powerOfShift_1 : List UInt8 := [167, 0, 17, 26, 16, 64, 100, 4, 96, 16, 33, 104, 16, 64, 96, 4, 100, 172]
abbrev dktX1_powerOfShift_1 : List UInt8 := dkwX1_powerOfShift_1 ++ []
def dkwX1_powerOfShift_0 : List UInt8 := [26, 16, 192, 162, 0, 14, 26, 16, 64, 96, 16, 33, 104, 16, 64, 100, 172, 26, 16, 64, 162, 0, 7, 26]
abbrev dktX1_powerOfShift_0 : List UInt8 := dkwX1_powerOfShift_0 ++ dktX1_powerOfShift_1
theorem dksX1_powerOfShift_0 : cX1_powerOfShift.data.toList.drop 0 = dktX1_powerOfShift_0 := by decide +kernel
theorem dksX1_powerOfShift_1 : cX1_powerOfShift.data.toList.drop 24 = dktX1_powerOfShift_1 := dk_seg dksX1_powerOfShift_0 24 rfl rfl
theorem dX1_powerOfShift_0 : decode cX1_powerOfShift 0 = .ok (.iload_n 0, 1) := dk_26 (dk_at dksX1_powerOfShift_0 0 rfl rfl)
theorem dX1_powerOfShift_1 : decode cX1_powerOfShift 1 = .ok (.bipush (-64), 2) := dk_16 192 (dk_at dksX1_powerOfShift_0 1 rfl rfl)
theorem dX1_powerOfShift_3 : decode cX1_powerOfShift 3 = .ok (.if_icmp .ge 14, 3) := dk_162 0 14 (dk_at dksX1_powerOfShift_0 3 rfl rfl)
theorem dX1_powerOfShift_6 : decode cX1_powerOfShift 6 = .ok (.iload_n 0, 1) := dk_26 (dk_at dksX1_powerOfShift_0 6 rfl rfl)
theorem dX1_powerOfShift_7 : decode cX1_powerOfShift 7 = .ok (.bipush 64, 2) := dk_16 64 (dk_at dksX1_powerOfShift_0 7 rfl rfl)
theorem dX1_powerOfShift_9 : decode cX1_powerOfShift 9 = .ok (.iadd, 1) := dk_96 (dk_at dksX1_powerOfShift_0 9 rfl rfl)
theorem dX1_powerOfShift_10 : decode cX1_powerOfShift 10 = .ok (.bipush 33, 2) := dk_16 33 (dk_at dksX1_powerOfShift_0 10 rfl rfl)
theorem dX1_powerOfShift_12 : decode cX1_powerOfShift 12 = .ok (.imul, 1) := dk_104 (dk_at dksX1_powerOfShift_0 12 rfl rfl)
theorem dX1_powerOfShift_13 : decode cX1_powerOfShift 13 = .ok (.bipush 64, 2) := dk_16 64 (dk_at dksX1_powerOfShift_0 13 rfl rfl)
theorem dX1_powerOfShift_15 : decode cX1_powerOfShift 15 = .ok (.isub, 1) := dk_100 (dk_at dksX1_powerOfShift_0 15 rfl rfl)
theorem dX1_powerOfShift_16 : decode cX1_powerOfShift 16 = .ok (.ireturn, 1) := dk_172 (dk_at dksX1_powerOfShift_0 16 rfl rfl)
theorem dX1_powerOfShift_17 : decode cX1_powerOfShift 17 = .ok (.iload_n 0, 1) := dk_26 (dk_at dksX1_powerOfShift_0 17 rfl rfl)
theorem dX1_powerOfShift_18 : decode cX1_powerOfShift 18 = .ok (.bipush 64, 2) := dk_16 64 (dk_at dksX1_powerOfShift_0 18 rfl rfl)
theorem dX1_powerOfShift_20 : decode cX1_powerOfShift 20 = .ok (.if_icmp .ge 7, 3) := dk_162 0 7 (dk_at dksX1_powerOfShift_0 20 rfl rfl)
theorem dX1_powerOfShift_23 : decode cX1_powerOfShift 23 = .ok (.iload_n 0, 1) := dk_26 (dk_at dksX1_powerOfShift_0 23 rfl rfl)
theorem dX1_powerOfShift_24 : decode cX1_powerOfShift 24 = .ok (.goto 17, 3) := dk_167 0 17 (dk_at dksX1_powerOfShift_1 0 rfl rfl)
theorem dX1_powerOfShift_27 : decode cX1_powerOfShift 27 = .ok (.iload_n 0, 1) := dk_26 (dk_at dksX1_powerOfShift_1 3 rfl rfl)
theorem dX1_powerOfShift_28 : decode cX1_powerOfShift 28 = .ok (.bipush 64, 2) := dk_16 64 (dk_at dksX1_powerOfShift_1 4 rfl rfl)
theorem dX1_powerOfShift_30 : decode cX1_powerOfShift 30 = .ok (.isub, 1) := dk_100 (dk_at dksX1_powerOfShift_1 6 rfl rfl)
theorem dX1_powerOfShift_31 : decode cX1_powerOfShift 31 = .ok (.iconst 1, 1) := dk_4 (dk_at dksX1_powerOfShift_1 7 rfl rfl)
theorem dX1_powerOfShift_32 : decode cX1_powerOfShift 32 = .ok (.iadd, 1) := dk_96 (dk_at dksX1_powerOfShift_1 8 rfl rfl)
theorem dX1_powerOfShift_33 : decode cX1_powerOfShift 33 = .ok (.bipush 33, 2) := dk_16 33 (dk_at dksX1_powerOfShift_1 9 rfl rfl)
theorem dX1_powerOfShift_35 : decode cX1_powerOfShift 35 = .ok (.imul, 1) := dk_104 (dk_at dksX1_powerOfShift_1 11 rfl rfl)
theorem dX1_powerOfShift_36 : decode cX1_powerOfShift 36 = .ok (.bipush 64, 2) := dk_16 64 (dk_at dksX1_powerOfShift_1 12 rfl rfl)
theorem dX1_powerOfShift_38 : decode cX1_powerOfShift 38 = .ok (.iadd, 1) := dk_96 (dk_at dksX1_powerOfShift_1 14 rfl rfl)
theorem dX1_powerOfShift_39 : decode cX1_powerOfShift 39 = .ok (.iconst 1, 1) := dk_4 (dk_at dksX1_powerOfShift_1 15 rfl rfl)
theorem dX1_powerOfShift_40 : decode cX1_powerOfShift 40 = .ok (.isub, 1) := dk_100 (dk_at dksX1_powerOfShift_1 16 rfl rfl)
theorem dX1_powerOfShift_41 : decode cX1_powerOfShift 41 = .ok (.ireturn, 1) := dk_172 (dk_at dksX1_powerOfShift_1 17 rfl rfl)
def dkwX1_powerAtLeast_0 : List UInt8 := [38, 184, 0, 188, 17, 252, 2, 184, 0, 191, 172]
abbrev dktX1_powerAtLeast_0 : List UInt8 := dkwX1_powerAtLeast_0 ++ []
theorem dksX1_powerAtLeast_0 : cX1_powerAtLeast.data.toList.drop 0 = dktX1_powerAtLeast_0 := by decide +kernel
theorem dX1_powerAtLeast_0 : decode cX1_powerAtLeast 0 = .ok (.dload_n 0, 1) := dk_38 (dk_at dksX1_powerAtLeast_0 0 rfl rfl)
theorem dX1_powerAtLeast_1 : decode cX1_powerAtLeast 1 = .ok (.invokestatic 188, 3) := dk_184 0 188 (dk_at dksX1_powerAtLeast_0 1 rfl rfl)
theorem dX1_powerAtLeast_4 : decode cX1_powerAtLeast 4 = .ok (.sipush (-1022), 3) := dk_17 252 2 (dk_at dksX1_powerAtLeast_0 4 rfl rfl)
theorem dX1_powerAtLeast_7 : decode cX1_powerAtLeast 7 = .ok (.invokestatic 191, 3) := dk_184 0 191 (dk_at dksX1_powerAtLeast_0 7 rfl rfl)
theorem dX1_powerAtLeast_10 : decode cX1_powerAtLeast 10 = .ok (.ireturn, 1) := dk_172 (dk_at dksX1_powerAtLeast_0 10 rfl rfl)
def dkwX1_unitOf_0 : List UInt8 := [15, 38, 184, 0, 195, 16, 52, 100, 184, 0, 184, 175]
abbrev dktX1_unitOf_0 : List UInt8 := dkwX1_unitOf_0 ++ []
theorem dksX1_unitOf_0 : cX1_unitOf.data.toList.drop 0 = dktX1_unitOf_0 := by decide +kernel
theorem dX1_unitOf_0 : decode cX1_unitOf 0 = .ok (.dconst 1, 1) := dk_15 (dk_at dksX1_unitOf_0 0 rfl rfl)
theorem dX1_unitOf_1 : decode cX1_unitOf 1 = .ok (.dload_n 0, 1) := dk_38 (dk_at dksX1_unitOf_0 1 rfl rfl)
theorem dX1_unitOf_2 : decode cX1_unitOf 2 = .ok (.invokestatic 195, 3) := dk_184 0 195 (dk_at dksX1_unitOf_0 2 rfl rfl)
theorem dX1_unitOf_5 : decode cX1_unitOf 5 = .ok (.bipush 52, 2) := dk_16 52 (dk_at dksX1_unitOf_0 5 rfl rfl)
theorem dX1_unitOf_7 : decode cX1_unitOf 7 = .ok (.isub, 1) := dk_100 (dk_at dksX1_unitOf_0 7 rfl rfl)
theorem dX1_unitOf_8 : decode cX1_unitOf 8 = .ok (.invokestatic 184, 3) := dk_184 0 184 (dk_at dksX1_unitOf_0 8 rfl rfl)
theorem dX1_unitOf_11 : decode cX1_unitOf 11 = .ok (.dreturn, 1) := dk_175 (dk_at dksX1_unitOf_0 11 rfl rfl)
def dkwX1_fullOf_0 : List UInt8 := [38, 184, 0, 54, 20, 0, 227, 127, 38, 184, 0, 93, 154, 0, 7, 9, 167, 0, 6, 20, 0, 229, 129, 173]
abbrev dktX1_fullOf_0 : List UInt8 := dkwX1_fullOf_0 ++ []
theorem dksX1_fullOf_0 : cX1_fullOf.data.toList.drop 0 = dktX1_fullOf_0 := by decide +kernel
theorem dX1_fullOf_0 : decode cX1_fullOf 0 = .ok (.dload_n 0, 1) := dk_38 (dk_at dksX1_fullOf_0 0 rfl rfl)
theorem dX1_fullOf_1 : decode cX1_fullOf 1 = .ok (.invokestatic 54, 3) := dk_184 0 54 (dk_at dksX1_fullOf_0 1 rfl rfl)
theorem dX1_fullOf_4 : decode cX1_fullOf 4 = .ok (.ldc2_w 227, 3) := dk_20 0 227 (dk_at dksX1_fullOf_0 4 rfl rfl)
theorem dX1_fullOf_7 : decode cX1_fullOf 7 = .ok (.land, 1) := dk_127 (dk_at dksX1_fullOf_0 7 rfl rfl)
theorem dX1_fullOf_8 : decode cX1_fullOf 8 = .ok (.dload_n 0, 1) := dk_38 (dk_at dksX1_fullOf_0 8 rfl rfl)
theorem dX1_fullOf_9 : decode cX1_fullOf 9 = .ok (.invokestatic 93, 3) := dk_184 0 93 (dk_at dksX1_fullOf_0 9 rfl rfl)
theorem dX1_fullOf_12 : decode cX1_fullOf 12 = .ok (.ifCond .ne 7, 3) := dk_154 0 7 (dk_at dksX1_fullOf_0 12 rfl rfl)
theorem dX1_fullOf_15 : decode cX1_fullOf 15 = .ok (.lconst 0, 1) := dk_9 (dk_at dksX1_fullOf_0 15 rfl rfl)
theorem dX1_fullOf_16 : decode cX1_fullOf 16 = .ok (.goto 6, 3) := dk_167 0 6 (dk_at dksX1_fullOf_0 16 rfl rfl)
theorem dX1_fullOf_19 : decode cX1_fullOf 19 = .ok (.ldc2_w 229, 3) := dk_20 0 229 (dk_at dksX1_fullOf_0 19 rfl rfl)
theorem dX1_fullOf_22 : decode cX1_fullOf 22 = .ok (.lor, 1) := dk_129 (dk_at dksX1_fullOf_0 22 rfl rfl)
theorem dX1_fullOf_23 : decode cX1_fullOf 23 = .ok (.lreturn, 1) := dk_173 (dk_at dksX1_fullOf_0 23 rfl rfl)
def dkwX1_wholeOf_0 : List UInt8 := [38, 184, 0, 231, 65, 32, 9, 148, 154, 0, 7, 9, 167, 0, 9, 32, 32, 184, 0, 234, 123, 173]
abbrev dktX1_wholeOf_0 : List UInt8 := dkwX1_wholeOf_0 ++ []
theorem dksX1_wholeOf_0 : cX1_wholeOf.data.toList.drop 0 = dktX1_wholeOf_0 := by decide +kernel
theorem dX1_wholeOf_0 : decode cX1_wholeOf 0 = .ok (.dload_n 0, 1) := dk_38 (dk_at dksX1_wholeOf_0 0 rfl rfl)
theorem dX1_wholeOf_1 : decode cX1_wholeOf 1 = .ok (.invokestatic 231, 3) := dk_184 0 231 (dk_at dksX1_wholeOf_0 1 rfl rfl)
theorem dX1_wholeOf_4 : decode cX1_wholeOf 4 = .ok (.lstore_n 2, 1) := dk_65 (dk_at dksX1_wholeOf_0 4 rfl rfl)
theorem dX1_wholeOf_5 : decode cX1_wholeOf 5 = .ok (.lload_n 2, 1) := dk_32 (dk_at dksX1_wholeOf_0 5 rfl rfl)
theorem dX1_wholeOf_6 : decode cX1_wholeOf 6 = .ok (.lconst 0, 1) := dk_9 (dk_at dksX1_wholeOf_0 6 rfl rfl)
theorem dX1_wholeOf_7 : decode cX1_wholeOf 7 = .ok (.lcmp, 1) := dk_148 (dk_at dksX1_wholeOf_0 7 rfl rfl)
theorem dX1_wholeOf_8 : decode cX1_wholeOf 8 = .ok (.ifCond .ne 7, 3) := dk_154 0 7 (dk_at dksX1_wholeOf_0 8 rfl rfl)
theorem dX1_wholeOf_11 : decode cX1_wholeOf 11 = .ok (.lconst 0, 1) := dk_9 (dk_at dksX1_wholeOf_0 11 rfl rfl)
theorem dX1_wholeOf_12 : decode cX1_wholeOf 12 = .ok (.goto 9, 3) := dk_167 0 9 (dk_at dksX1_wholeOf_0 12 rfl rfl)
theorem dX1_wholeOf_15 : decode cX1_wholeOf 15 = .ok (.lload_n 2, 1) := dk_32 (dk_at dksX1_wholeOf_0 15 rfl rfl)
theorem dX1_wholeOf_16 : decode cX1_wholeOf 16 = .ok (.lload_n 2, 1) := dk_32 (dk_at dksX1_wholeOf_0 16 rfl rfl)
theorem dX1_wholeOf_17 : decode cX1_wholeOf 17 = .ok (.invokestatic 234, 3) := dk_184 0 234 (dk_at dksX1_wholeOf_0 17 rfl rfl)
theorem dX1_wholeOf_20 : decode cX1_wholeOf 20 = .ok (.lshr, 1) := dk_123 (dk_at dksX1_wholeOf_0 20 rfl rfl)
theorem dX1_wholeOf_21 : decode cX1_wholeOf 21 = .ok (.lreturn, 1) := dk_173 (dk_at dksX1_wholeOf_0 21 rfl rfl)
def dkwX1_raiseOf_1 : List UInt8 := [184, 0, 191, 96, 32, 184, 0, 234, 96, 172]
abbrev dktX1_raiseOf_1 : List UInt8 := dkwX1_raiseOf_1 ++ []
def dkwX1_raiseOf_0 : List UInt8 := [38, 184, 0, 231, 65, 32, 9, 148, 154, 0, 7, 3, 167, 0, 20, 17, 251, 205, 38, 184, 0, 93, 4]
abbrev dktX1_raiseOf_0 : List UInt8 := dkwX1_raiseOf_0 ++ dktX1_raiseOf_1
theorem dksX1_raiseOf_0 : cX1_raiseOf.data.toList.drop 0 = dktX1_raiseOf_0 := by decide +kernel
theorem dksX1_raiseOf_1 : cX1_raiseOf.data.toList.drop 23 = dktX1_raiseOf_1 := dk_seg dksX1_raiseOf_0 23 rfl rfl
theorem dX1_raiseOf_0 : decode cX1_raiseOf 0 = .ok (.dload_n 0, 1) := dk_38 (dk_at dksX1_raiseOf_0 0 rfl rfl)
theorem dX1_raiseOf_1 : decode cX1_raiseOf 1 = .ok (.invokestatic 231, 3) := dk_184 0 231 (dk_at dksX1_raiseOf_0 1 rfl rfl)
theorem dX1_raiseOf_4 : decode cX1_raiseOf 4 = .ok (.lstore_n 2, 1) := dk_65 (dk_at dksX1_raiseOf_0 4 rfl rfl)
theorem dX1_raiseOf_5 : decode cX1_raiseOf 5 = .ok (.lload_n 2, 1) := dk_32 (dk_at dksX1_raiseOf_0 5 rfl rfl)
theorem dX1_raiseOf_6 : decode cX1_raiseOf 6 = .ok (.lconst 0, 1) := dk_9 (dk_at dksX1_raiseOf_0 6 rfl rfl)
theorem dX1_raiseOf_7 : decode cX1_raiseOf 7 = .ok (.lcmp, 1) := dk_148 (dk_at dksX1_raiseOf_0 7 rfl rfl)
theorem dX1_raiseOf_8 : decode cX1_raiseOf 8 = .ok (.ifCond .ne 7, 3) := dk_154 0 7 (dk_at dksX1_raiseOf_0 8 rfl rfl)
theorem dX1_raiseOf_11 : decode cX1_raiseOf 11 = .ok (.iconst 0, 1) := dk_3 (dk_at dksX1_raiseOf_0 11 rfl rfl)
theorem dX1_raiseOf_12 : decode cX1_raiseOf 12 = .ok (.goto 20, 3) := dk_167 0 20 (dk_at dksX1_raiseOf_0 12 rfl rfl)
theorem dX1_raiseOf_15 : decode cX1_raiseOf 15 = .ok (.sipush (-1075), 3) := dk_17 251 205 (dk_at dksX1_raiseOf_0 15 rfl rfl)
theorem dX1_raiseOf_18 : decode cX1_raiseOf 18 = .ok (.dload_n 0, 1) := dk_38 (dk_at dksX1_raiseOf_0 18 rfl rfl)
theorem dX1_raiseOf_19 : decode cX1_raiseOf 19 = .ok (.invokestatic 93, 3) := dk_184 0 93 (dk_at dksX1_raiseOf_0 19 rfl rfl)
theorem dX1_raiseOf_22 : decode cX1_raiseOf 22 = .ok (.iconst 1, 1) := dk_4 (dk_at dksX1_raiseOf_0 22 rfl rfl)
theorem dX1_raiseOf_23 : decode cX1_raiseOf 23 = .ok (.invokestatic 191, 3) := dk_184 0 191 (dk_at dksX1_raiseOf_1 0 rfl rfl)
theorem dX1_raiseOf_26 : decode cX1_raiseOf 26 = .ok (.iadd, 1) := dk_96 (dk_at dksX1_raiseOf_1 3 rfl rfl)
theorem dX1_raiseOf_27 : decode cX1_raiseOf 27 = .ok (.lload_n 2, 1) := dk_32 (dk_at dksX1_raiseOf_1 4 rfl rfl)
theorem dX1_raiseOf_28 : decode cX1_raiseOf 28 = .ok (.invokestatic 234, 3) := dk_184 0 234 (dk_at dksX1_raiseOf_1 5 rfl rfl)
theorem dX1_raiseOf_31 : decode cX1_raiseOf 31 = .ok (.iadd, 1) := dk_96 (dk_at dksX1_raiseOf_1 8 rfl rfl)
theorem dX1_raiseOf_32 : decode cX1_raiseOf 32 = .ok (.ireturn, 1) := dk_172 (dk_at dksX1_raiseOf_1 9 rfl rfl)
def dkwX1_hasDecimal_0 : List UInt8 := [38, 184, 1, 2, 17, 255, 56, 17, 0, 200, 184, 0, 29, 172]
abbrev dktX1_hasDecimal_0 : List UInt8 := dkwX1_hasDecimal_0 ++ []
theorem dksX1_hasDecimal_0 : cX1_hasDecimal.data.toList.drop 0 = dktX1_hasDecimal_0 := by decide +kernel
theorem dX1_hasDecimal_0 : decode cX1_hasDecimal 0 = .ok (.dload_n 0, 1) := dk_38 (dk_at dksX1_hasDecimal_0 0 rfl rfl)
theorem dX1_hasDecimal_1 : decode cX1_hasDecimal 1 = .ok (.invokestatic 258, 3) := dk_184 1 2 (dk_at dksX1_hasDecimal_0 1 rfl rfl)
theorem dX1_hasDecimal_4 : decode cX1_hasDecimal 4 = .ok (.sipush (-200), 3) := dk_17 255 56 (dk_at dksX1_hasDecimal_0 4 rfl rfl)
theorem dX1_hasDecimal_7 : decode cX1_hasDecimal 7 = .ok (.sipush 200, 3) := dk_17 0 200 (dk_at dksX1_hasDecimal_0 7 rfl rfl)
theorem dX1_hasDecimal_10 : decode cX1_hasDecimal 10 = .ok (.invokestatic 29, 3) := dk_184 0 29 (dk_at dksX1_hasDecimal_0 10 rfl rfl)
theorem dX1_hasDecimal_13 : decode cX1_hasDecimal 13 = .ok (.ireturn, 1) := dk_172 (dk_at dksX1_hasDecimal_0 13 rfl rfl)
def dkwX1_powerOfUnit_0 : List UInt8 := [38, 184, 0, 198, 16, 52, 184, 0, 184, 184, 0, 188, 172]
abbrev dktX1_powerOfUnit_0 : List UInt8 := dkwX1_powerOfUnit_0 ++ []
theorem dksX1_powerOfUnit_0 : cX1_powerOfUnit.data.toList.drop 0 = dktX1_powerOfUnit_0 := by decide +kernel
theorem dX1_powerOfUnit_0 : decode cX1_powerOfUnit 0 = .ok (.dload_n 0, 1) := dk_38 (dk_at dksX1_powerOfUnit_0 0 rfl rfl)
theorem dX1_powerOfUnit_1 : decode cX1_powerOfUnit 1 = .ok (.invokestatic 198, 3) := dk_184 0 198 (dk_at dksX1_powerOfUnit_0 1 rfl rfl)
theorem dX1_powerOfUnit_4 : decode cX1_powerOfUnit 4 = .ok (.bipush 52, 2) := dk_16 52 (dk_at dksX1_powerOfUnit_0 4 rfl rfl)
theorem dX1_powerOfUnit_6 : decode cX1_powerOfUnit 6 = .ok (.invokestatic 184, 3) := dk_184 0 184 (dk_at dksX1_powerOfUnit_0 6 rfl rfl)
theorem dX1_powerOfUnit_9 : decode cX1_powerOfUnit 9 = .ok (.invokestatic 188, 3) := dk_184 0 188 (dk_at dksX1_powerOfUnit_0 9 rfl rfl)
theorem dX1_powerOfUnit_12 : decode cX1_powerOfUnit 12 = .ok (.ireturn, 1) := dk_172 (dk_at dksX1_powerOfUnit_0 12 rfl rfl)
def dkwX1_lastOf_0 : List UInt8 := [38, 14, 151, 154, 0, 9, 17, 7, 254, 167, 0, 13, 38, 184, 0, 93, 4, 184, 0, 191, 4, 100, 172]
abbrev dktX1_lastOf_0 : List UInt8 := dkwX1_lastOf_0 ++ []
theorem dksX1_lastOf_0 : cX1_lastOf.data.toList.drop 0 = dktX1_lastOf_0 := by decide +kernel
theorem dX1_lastOf_0 : decode cX1_lastOf 0 = .ok (.dload_n 0, 1) := dk_38 (dk_at dksX1_lastOf_0 0 rfl rfl)
theorem dX1_lastOf_1 : decode cX1_lastOf 1 = .ok (.dconst 0, 1) := dk_14 (dk_at dksX1_lastOf_0 1 rfl rfl)
theorem dX1_lastOf_2 : decode cX1_lastOf 2 = .ok (.dcmp .l, 1) := dk_151 (dk_at dksX1_lastOf_0 2 rfl rfl)
theorem dX1_lastOf_3 : decode cX1_lastOf 3 = .ok (.ifCond .ne 9, 3) := dk_154 0 9 (dk_at dksX1_lastOf_0 3 rfl rfl)
theorem dX1_lastOf_6 : decode cX1_lastOf 6 = .ok (.sipush 2046, 3) := dk_17 7 254 (dk_at dksX1_lastOf_0 6 rfl rfl)
theorem dX1_lastOf_9 : decode cX1_lastOf 9 = .ok (.goto 13, 3) := dk_167 0 13 (dk_at dksX1_lastOf_0 9 rfl rfl)
theorem dX1_lastOf_12 : decode cX1_lastOf 12 = .ok (.dload_n 0, 1) := dk_38 (dk_at dksX1_lastOf_0 12 rfl rfl)
theorem dX1_lastOf_13 : decode cX1_lastOf 13 = .ok (.invokestatic 93, 3) := dk_184 0 93 (dk_at dksX1_lastOf_0 13 rfl rfl)
theorem dX1_lastOf_16 : decode cX1_lastOf 16 = .ok (.iconst 1, 1) := dk_4 (dk_at dksX1_lastOf_0 16 rfl rfl)
theorem dX1_lastOf_17 : decode cX1_lastOf 17 = .ok (.invokestatic 191, 3) := dk_184 0 191 (dk_at dksX1_lastOf_0 17 rfl rfl)
theorem dX1_lastOf_20 : decode cX1_lastOf 20 = .ok (.iconst 1, 1) := dk_4 (dk_at dksX1_lastOf_0 20 rfl rfl)
theorem dX1_lastOf_21 : decode cX1_lastOf 21 = .ok (.isub, 1) := dk_100 (dk_at dksX1_lastOf_0 21 rfl rfl)
theorem dX1_lastOf_22 : decode cX1_lastOf 22 = .ok (.ireturn, 1) := dk_172 (dk_at dksX1_lastOf_0 22 rfl rfl)
def dkwX1_decimalsOf_0 : List UInt8 := [38, 184, 1, 18, 153, 0, 15, 38, 184, 1, 2, 116, 3, 184, 0, 191, 167, 0, 4, 2, 172]
abbrev dktX1_decimalsOf_0 : List UInt8 := dkwX1_decimalsOf_0 ++ []
theorem dksX1_decimalsOf_0 : cX1_decimalsOf.data.toList.drop 0 = dktX1_decimalsOf_0 := by decide +kernel
theorem dX1_decimalsOf_0 : decode cX1_decimalsOf 0 = .ok (.dload_n 0, 1) := dk_38 (dk_at dksX1_decimalsOf_0 0 rfl rfl)
theorem dX1_decimalsOf_1 : decode cX1_decimalsOf 1 = .ok (.invokestatic 274, 3) := dk_184 1 18 (dk_at dksX1_decimalsOf_0 1 rfl rfl)
theorem dX1_decimalsOf_4 : decode cX1_decimalsOf 4 = .ok (.ifCond .eq 15, 3) := dk_153 0 15 (dk_at dksX1_decimalsOf_0 4 rfl rfl)
theorem dX1_decimalsOf_7 : decode cX1_decimalsOf 7 = .ok (.dload_n 0, 1) := dk_38 (dk_at dksX1_decimalsOf_0 7 rfl rfl)
theorem dX1_decimalsOf_8 : decode cX1_decimalsOf 8 = .ok (.invokestatic 258, 3) := dk_184 1 2 (dk_at dksX1_decimalsOf_0 8 rfl rfl)
theorem dX1_decimalsOf_11 : decode cX1_decimalsOf 11 = .ok (.ineg, 1) := dk_116 (dk_at dksX1_decimalsOf_0 11 rfl rfl)
theorem dX1_decimalsOf_12 : decode cX1_decimalsOf 12 = .ok (.iconst 0, 1) := dk_3 (dk_at dksX1_decimalsOf_0 12 rfl rfl)
theorem dX1_decimalsOf_13 : decode cX1_decimalsOf 13 = .ok (.invokestatic 191, 3) := dk_184 0 191 (dk_at dksX1_decimalsOf_0 13 rfl rfl)
theorem dX1_decimalsOf_16 : decode cX1_decimalsOf 16 = .ok (.goto 4, 3) := dk_167 0 4 (dk_at dksX1_decimalsOf_0 16 rfl rfl)
theorem dX1_decimalsOf_19 : decode cX1_decimalsOf 19 = .ok (.iconst (-1), 1) := dk_2 (dk_at dksX1_decimalsOf_0 19 rfl rfl)
theorem dX1_decimalsOf_20 : decode cX1_decimalsOf 20 = .ok (.ireturn, 1) := dk_172 (dk_at dksX1_decimalsOf_0 20 rfl rfl)
def dkwX1_add_0 : List UInt8 := [20, 1, 165, 30, 105, 32, 97, 173]
abbrev dktX1_add_0 : List UInt8 := dkwX1_add_0 ++ []
theorem dksX1_add_0 : cX1_add.data.toList.drop 0 = dktX1_add_0 := by decide +kernel
theorem dX1_add_0 : decode cX1_add 0 = .ok (.ldc2_w 421, 3) := dk_20 1 165 (dk_at dksX1_add_0 0 rfl rfl)
theorem dX1_add_3 : decode cX1_add 3 = .ok (.lload_n 0, 1) := dk_30 (dk_at dksX1_add_0 3 rfl rfl)
theorem dX1_add_4 : decode cX1_add 4 = .ok (.lmul, 1) := dk_105 (dk_at dksX1_add_0 4 rfl rfl)
theorem dX1_add_5 : decode cX1_add 5 = .ok (.lload_n 2, 1) := dk_32 (dk_at dksX1_add_0 5 rfl rfl)
theorem dX1_add_6 : decode cX1_add 6 = .ok (.ladd, 1) := dk_97 (dk_at dksX1_add_0 6 rfl rfl)
theorem dX1_add_7 : decode cX1_add 7 = .ok (.lreturn, 1) := dk_173 (dk_at dksX1_add_0 7 rfl rfl)
def dkwX1_areWithin_2 : List UInt8 := [4, 167, 0, 4, 3, 172]
abbrev dktX1_areWithin_2 : List UInt8 := dkwX1_areWithin_2 ++ []
def dkwX1_areWithin_1 : List UInt8 := [24, 4, 24, 6, 4, 184, 0, 184, 152, 157, 0, 19, 24, 6, 24, 4, 4, 184, 0, 184, 152, 157, 0, 7]
abbrev dktX1_areWithin_1 : List UInt8 := dkwX1_areWithin_1 ++ dktX1_areWithin_2
def dkwX1_areWithin_0 : List UInt8 := [38, 184, 1, 108, 57, 4, 40, 184, 1, 108, 57, 6, 38, 184, 0, 61, 40, 184, 0, 61, 160, 0, 31]
abbrev dktX1_areWithin_0 : List UInt8 := dkwX1_areWithin_0 ++ dktX1_areWithin_1
theorem dksX1_areWithin_0 : cX1_areWithin.data.toList.drop 0 = dktX1_areWithin_0 := by decide +kernel
theorem dksX1_areWithin_1 : cX1_areWithin.data.toList.drop 23 = dktX1_areWithin_1 := dk_seg dksX1_areWithin_0 23 rfl rfl
theorem dksX1_areWithin_2 : cX1_areWithin.data.toList.drop 47 = dktX1_areWithin_2 := dk_seg dksX1_areWithin_1 24 rfl rfl
theorem dX1_areWithin_0 : decode cX1_areWithin 0 = .ok (.dload_n 0, 1) := dk_38 (dk_at dksX1_areWithin_0 0 rfl rfl)
theorem dX1_areWithin_1 : decode cX1_areWithin 1 = .ok (.invokestatic 364, 3) := dk_184 1 108 (dk_at dksX1_areWithin_0 1 rfl rfl)
theorem dX1_areWithin_4 : decode cX1_areWithin 4 = .ok (.dstore 4, 2) := dk_57 4 (dk_at dksX1_areWithin_0 4 rfl rfl)
theorem dX1_areWithin_6 : decode cX1_areWithin 6 = .ok (.dload_n 2, 1) := dk_40 (dk_at dksX1_areWithin_0 6 rfl rfl)
theorem dX1_areWithin_7 : decode cX1_areWithin 7 = .ok (.invokestatic 364, 3) := dk_184 1 108 (dk_at dksX1_areWithin_0 7 rfl rfl)
theorem dX1_areWithin_10 : decode cX1_areWithin 10 = .ok (.dstore 6, 2) := dk_57 6 (dk_at dksX1_areWithin_0 10 rfl rfl)
theorem dX1_areWithin_12 : decode cX1_areWithin 12 = .ok (.dload_n 0, 1) := dk_38 (dk_at dksX1_areWithin_0 12 rfl rfl)
theorem dX1_areWithin_13 : decode cX1_areWithin 13 = .ok (.invokestatic 61, 3) := dk_184 0 61 (dk_at dksX1_areWithin_0 13 rfl rfl)
theorem dX1_areWithin_16 : decode cX1_areWithin 16 = .ok (.dload_n 2, 1) := dk_40 (dk_at dksX1_areWithin_0 16 rfl rfl)
theorem dX1_areWithin_17 : decode cX1_areWithin 17 = .ok (.invokestatic 61, 3) := dk_184 0 61 (dk_at dksX1_areWithin_0 17 rfl rfl)
theorem dX1_areWithin_20 : decode cX1_areWithin 20 = .ok (.if_icmp .ne 31, 3) := dk_160 0 31 (dk_at dksX1_areWithin_0 20 rfl rfl)
theorem dX1_areWithin_23 : decode cX1_areWithin 23 = .ok (.dload 4, 2) := dk_24 4 (dk_at dksX1_areWithin_1 0 rfl rfl)
theorem dX1_areWithin_25 : decode cX1_areWithin 25 = .ok (.dload 6, 2) := dk_24 6 (dk_at dksX1_areWithin_1 2 rfl rfl)
theorem dX1_areWithin_27 : decode cX1_areWithin 27 = .ok (.iconst 1, 1) := dk_4 (dk_at dksX1_areWithin_1 4 rfl rfl)
theorem dX1_areWithin_28 : decode cX1_areWithin 28 = .ok (.invokestatic 184, 3) := dk_184 0 184 (dk_at dksX1_areWithin_1 5 rfl rfl)
theorem dX1_areWithin_31 : decode cX1_areWithin 31 = .ok (.dcmp .g, 1) := dk_152 (dk_at dksX1_areWithin_1 8 rfl rfl)
theorem dX1_areWithin_32 : decode cX1_areWithin 32 = .ok (.ifCond .gt 19, 3) := dk_157 0 19 (dk_at dksX1_areWithin_1 9 rfl rfl)
theorem dX1_areWithin_35 : decode cX1_areWithin 35 = .ok (.dload 6, 2) := dk_24 6 (dk_at dksX1_areWithin_1 12 rfl rfl)
theorem dX1_areWithin_37 : decode cX1_areWithin 37 = .ok (.dload 4, 2) := dk_24 4 (dk_at dksX1_areWithin_1 14 rfl rfl)
theorem dX1_areWithin_39 : decode cX1_areWithin 39 = .ok (.iconst 1, 1) := dk_4 (dk_at dksX1_areWithin_1 16 rfl rfl)
theorem dX1_areWithin_40 : decode cX1_areWithin 40 = .ok (.invokestatic 184, 3) := dk_184 0 184 (dk_at dksX1_areWithin_1 17 rfl rfl)
theorem dX1_areWithin_43 : decode cX1_areWithin 43 = .ok (.dcmp .g, 1) := dk_152 (dk_at dksX1_areWithin_1 20 rfl rfl)
theorem dX1_areWithin_44 : decode cX1_areWithin 44 = .ok (.ifCond .gt 7, 3) := dk_157 0 7 (dk_at dksX1_areWithin_1 21 rfl rfl)
theorem dX1_areWithin_47 : decode cX1_areWithin 47 = .ok (.iconst 1, 1) := dk_4 (dk_at dksX1_areWithin_2 0 rfl rfl)
theorem dX1_areWithin_48 : decode cX1_areWithin 48 = .ok (.goto 4, 3) := dk_167 0 4 (dk_at dksX1_areWithin_2 1 rfl rfl)
theorem dX1_areWithin_51 : decode cX1_areWithin 51 = .ok (.iconst 0, 1) := dk_3 (dk_at dksX1_areWithin_2 4 rfl rfl)
theorem dX1_areWithin_52 : decode cX1_areWithin 52 = .ok (.ireturn, 1) := dk_172 (dk_at dksX1_areWithin_2 5 rfl rfl)
theorem yd_J12_scalb : yJ12_scalb.cls ≠ "java/lang/invoke/MethodHandle" ∧ yJ12_scalb.cls ≠ "java/lang/invoke/VarHandle" ∧ (parseMethodDescriptor yJ12_scalb.desc).map (fun d => d.parameters.length) = some 2 := by decide +kernel
theorem yd_J12_ulp : yJ12_ulp.cls ≠ "java/lang/invoke/MethodHandle" ∧ yJ12_ulp.cls ≠ "java/lang/invoke/VarHandle" ∧ (parseMethodDescriptor yJ12_ulp.desc).map (fun d => d.parameters.length) = some 1 := by decide +kernel
theorem yd_J16_numberOfTrailingZeros : yJ16_numberOfTrailingZeros.cls ≠ "java/lang/invoke/MethodHandle" ∧ yJ16_numberOfTrailingZeros.cls ≠ "java/lang/invoke/VarHandle" ∧ (parseMethodDescriptor yJ16_numberOfTrailingZeros.desc).map (fun d => d.parameters.length) = some 1 := by decide +kernel
theorem yd_X1_exponentOf : yX1_exponentOf.cls ≠ "java/lang/invoke/MethodHandle" ∧ yX1_exponentOf.cls ≠ "java/lang/invoke/VarHandle" ∧ (parseMethodDescriptor yX1_exponentOf.desc).map (fun d => d.parameters.length) = some 1 := by decide +kernel
theorem yd_X1_fullOf : yX1_fullOf.cls ≠ "java/lang/invoke/MethodHandle" ∧ yX1_fullOf.cls ≠ "java/lang/invoke/VarHandle" ∧ (parseMethodDescriptor yX1_fullOf.desc).map (fun d => d.parameters.length) = some 1 := by decide +kernel
theorem yd_X1_hasDecimal : yX1_hasDecimal.cls ≠ "java/lang/invoke/MethodHandle" ∧ yX1_hasDecimal.cls ≠ "java/lang/invoke/VarHandle" ∧ (parseMethodDescriptor yX1_hasDecimal.desc).map (fun d => d.parameters.length) = some 1 := by decide +kernel
theorem yd_X1_isCloseBy : yX1_isCloseBy.cls ≠ "java/lang/invoke/MethodHandle" ∧ yX1_isCloseBy.cls ≠ "java/lang/invoke/VarHandle" ∧ (parseMethodDescriptor yX1_isCloseBy.desc).map (fun d => d.parameters.length) = some 1 := by decide +kernel
theorem yd_X1_offsetOf : yX1_offsetOf.cls ≠ "java/lang/invoke/MethodHandle" ∧ yX1_offsetOf.cls ≠ "java/lang/invoke/VarHandle" ∧ (parseMethodDescriptor yX1_offsetOf.desc).map (fun d => d.parameters.length) = some 1 := by decide +kernel
theorem yd_X1_powerAtLeast : yX1_powerAtLeast.cls ≠ "java/lang/invoke/MethodHandle" ∧ yX1_powerAtLeast.cls ≠ "java/lang/invoke/VarHandle" ∧ (parseMethodDescriptor yX1_powerAtLeast.desc).map (fun d => d.parameters.length) = some 1 := by decide +kernel
theorem yd_X1_raiseOf : yX1_raiseOf.cls ≠ "java/lang/invoke/MethodHandle" ∧ yX1_raiseOf.cls ≠ "java/lang/invoke/VarHandle" ∧ (parseMethodDescriptor yX1_raiseOf.desc).map (fun d => d.parameters.length) = some 1 := by decide +kernel
theorem yd_X1_sizeOf : yX1_sizeOf.cls ≠ "java/lang/invoke/MethodHandle" ∧ yX1_sizeOf.cls ≠ "java/lang/invoke/VarHandle" ∧ (parseMethodDescriptor yX1_sizeOf.desc).map (fun d => d.parameters.length) = some 1 := by decide +kernel
theorem yd_X1_windowOf : yX1_windowOf.cls ≠ "java/lang/invoke/MethodHandle" ∧ yX1_windowOf.cls ≠ "java/lang/invoke/VarHandle" ∧ (parseMethodDescriptor yX1_windowOf.desc).map (fun d => d.parameters.length) = some 1 := by decide +kernel
set_option maxHeartbeats 1000000 in
theorem m_offsetOf (l : Launch) (z : State) (H0 : Heap) (x : UInt64)  {A : Nat → Prop} (k : Nat → Nat) (hx0 : dNum x) (hk : sN z k A H0) : Met l yX1_offsetOf (ws_ yX1_offsetOf cX1_offsetOf 3 (some .int)) { frames := 4, cells := 0, slots := 0, locals := 86 } (gPc z H0 [.double x]) (gPi H0 (fun r => r = iI (ofs x))) 0 0 gno := by
  refine g_start (by decide +kernel) (Nat.le_of_ble_eq_true rfl) ?_
  intro p e s m below meth c ls hx hb hr hlocks hml hown hname hts hwm hl
  have hown : s.vm.findClass "Nearplaces" = some m.cls := hown
  have hal : z.vm.Alike s.vm := hwm.alike
  have hCF : CallFix p m c cX1_offsetOf 3 s [.double x].toArray lw_all "Nearplaces" := ⟨hx, hb, hml, hown, hts⟩
  have hl : lv_has ls 3 [(0, .double x)] := hl
  refine lv_dload_n hx hb dX1_offsetOf_0 rfl (lv_at hl 0 rfl) ?_
  refine gcS1_lP hCF hwm hl.1 (m_pointOf l z H0 x hx0 ) (lw_S q375 q376 q65 q377) yd_X1_pointOf ⟨Nat.le_of_ble_eq_true rfl, Nat.le_of_ble_eq_true rfl⟩ ⟨Nat.le_of_ble_eq_true rfl, Nat.le_of_ble_eq_true rfl⟩ (Nat.le_of_ble_eq_true rfl) dX1_offsetOf_1 (fun r_1 hp => ?_)
  subst hp
  refine gcS1_iP hCF hwm hl.1 (m_windowOf l z H0  (dP x) k (dP_lt x) hk ) (lw_S q1800 q1801 q65 q1802) yd_X1_windowOf ⟨Nat.le_of_ble_eq_true rfl, Nat.le_of_ble_eq_true rfl⟩ ⟨Nat.le_of_ble_eq_true rfl, Nat.le_of_ble_eq_true rfl⟩ (Nat.le_of_ble_eq_true rfl) dX1_offsetOf_4 (fun r_2 hp => ?_)
  subst hp
  refine lv_topi (fun x_3 ex_3 => ?_)
  refine lv_istore_n hx hb dX1_offsetOf_7 rfl hl (by decide) rfl (fun ls hl => ?_)
  have hl : lv_has ls 3 [(2, .int x_3), (0, .double x)] := hl
  refine lv_iload_n hx hb dX1_offsetOf_8 rfl (lv_at hl 0 rfl) ?_
  refine lv_iconst (v := -1) hx hb dX1_offsetOf_9 (by decide) ?_
  refine lv_icmp_ne (tgt := 19) hx hb dX1_offsetOf_10 (by decide) (fun c_10 => ?_) (fun c_10 => ?_)
  · skip
    obtain ⟨i, hi⟩ : ∃ i, win (dP x) = some i := by
      cases h : win (dP x) with
      | none => exact absurd (winI_lt.mpr h) (by rw [← ex_3]; exact c_10)
      | some i => exact ⟨i, rfl⟩
    have hi2 := (win_some hi).2.1
    have exi : x_3 = nI i := by rw [ex_3]; exact winI_some hi
    subst exi
    refine lv_dload_n hx hb dX1_offsetOf_19 rfl (lv_at hl 1 rfl) ?_
    refine gcS1_lP hCF hwm hl.1 (m_pointOf l z H0 x hx0 ) (lw_S q375 q376 q65 q377) yd_X1_pointOf ⟨Nat.le_of_ble_eq_true rfl, Nat.le_of_ble_eq_true rfl⟩ ⟨Nat.le_of_ble_eq_true rfl, Nat.le_of_ble_eq_true rfl⟩ (Nat.le_of_ble_eq_true rfl) dX1_offsetOf_20 (fun r_4 hp => ?_)
    subst hp
    refine lv_iload_n hx hb dX1_offsetOf_23 rfl (lv_at hl 0 rfl) ?_
    refine g_topi (v := (nI i)) (rfl) ?_
    refine gcS1_lP hCF hwm hl.1 (m_knotPoint l z H0  i k hi2 hk ) (lw_S q1789 q1790 q65 q1791) yd_X1_knotPoint ⟨Nat.le_of_ble_eq_true rfl, Nat.le_of_ble_eq_true rfl⟩ ⟨Nat.le_of_ble_eq_true rfl, Nat.le_of_ble_eq_true rfl⟩ (Nat.le_of_ble_eq_true rfl) dX1_offsetOf_24 (fun r_5 hp => ?_)
    subst hp
    refine lv_lsub hx hb dX1_offsetOf_27 ?_
    refine g_topl (v := (lI (ofs x))) ?_ ?_
    · skip
      apply lI_eq
      rw [kP_ofs (dP_lt x) hi2]
      unfold ofs
      rw [hi]
    refine lv_l2i hx hb dX1_offsetOf_28 rfl ?_
    refine g_iretP hx hb hr hlocks ?_ dX1_offsetOf_29
    exact lI_i32
  · skip
    have hn : win (dP x) = none := winI_lt.mp (by rw [← ex_3]; exact c_10)
    refine lv_sipush (v := -9999) hx hb dX1_offsetOf_13 (by decide) ?_
    refine lv_goto (tgt := 29) hx hb dX1_offsetOf_16 (by decide) ?_
    refine g_iretP hx hb hr hlocks ?_ dX1_offsetOf_29
    unfold ofs
    rw [hn]
    rfl
set_option maxHeartbeats 1000000 in
theorem m_isOfSet (l : Launch) (z : State) (H0 : Heap) (x : UInt64)  {A : Nat → Prop} (k : Nat → Nat) (hx0 : dNum x) (hk : sN z k A H0) : Met l yX1_isOfSet (ws_ yX1_isOfSet cX1_isOfSet 2 (some .boolean)) { frames := 4, cells := 0, slots := 0, locals := 86 } (gPc z H0 [.double x]) (gPi H0 (fun r => r = gb (win (dP x)).isSome)) 0 0 gno := by
  refine g_start (by decide +kernel) (Nat.le_of_ble_eq_true rfl) ?_
  intro p e s m below meth c ls hx hb hr hlocks hml hown hname hts hwm hl
  have hown : s.vm.findClass "Nearplaces" = some m.cls := hown
  have hal : z.vm.Alike s.vm := hwm.alike
  have hCF : CallFix p m c cX1_isOfSet 2 s [.double x].toArray lw_all "Nearplaces" := ⟨hx, hb, hml, hown, hts⟩
  have hl : lv_has ls 2 [(0, .double x)] := hl
  refine lv_dload_n hx hb dX1_isOfSet_0 rfl (lv_at hl 0 rfl) ?_
  refine gcS1_lP hCF hwm hl.1 (m_pointOf l z H0 x hx0 ) (lw_S q375 q376 q65 q377) yd_X1_pointOf ⟨Nat.le_of_ble_eq_true rfl, Nat.le_of_ble_eq_true rfl⟩ ⟨Nat.le_of_ble_eq_true rfl, Nat.le_of_ble_eq_true rfl⟩ (Nat.le_of_ble_eq_true rfl) dX1_isOfSet_1 (fun r_1 hp => ?_)
  subst hp
  refine gcS1_iP hCF hwm hl.1 (m_windowOf l z H0  (dP x) k (dP_lt x) hk ) (lw_S q1800 q1801 q65 q1802) yd_X1_windowOf ⟨Nat.le_of_ble_eq_true rfl, Nat.le_of_ble_eq_true rfl⟩ ⟨Nat.le_of_ble_eq_true rfl, Nat.le_of_ble_eq_true rfl⟩ (Nat.le_of_ble_eq_true rfl) dX1_isOfSet_4 (fun r_2 hp => ?_)
  subst hp
  refine lv_iconst (v := -1) hx hb dX1_isOfSet_7 (by decide) ?_
  refine lv_icmp_eq (tgt := 15) hx hb dX1_isOfSet_8 (by decide) (fun c_8 => ?_) (fun c_8 => ?_)
  · skip
    refine lv_iconst (v := 0) hx hb dX1_isOfSet_15 (by decide) ?_
    refine g_zretP hx hb hr hlocks (rfl) ?_ dX1_isOfSet_16
    rw [winI_lt] at c_8
    rw [c_8]; rfl
  · skip
    refine lv_iconst (v := 1) hx hb dX1_isOfSet_11 (by decide) ?_
    refine lv_goto (tgt := 16) hx hb dX1_isOfSet_12 (by decide) ?_
    refine g_zretP hx hb hr hlocks (rfl) ?_ dX1_isOfSet_16
    rw [winI_lt] at c_8
    cases h : win (dP x) with
    | none => exact absurd h c_8
    | some i => rfl
set_option maxHeartbeats 1000000 in
theorem m_isCloseBy (l : Launch) (z : State) (H0 : Heap) (x : UInt64)  {A : Nat → Prop} (k : Nat → Nat) (hx0 : dNum x) (hk : sN z k A H0) : Met l yX1_isCloseBy (ws_ yX1_isCloseBy cX1_isCloseBy 2 (some .boolean)) { frames := 5, cells := 0, slots := 0, locals := 108 } (gPc z H0 [.double x]) (gPi H0 (fun r => r = gb (near x))) 0 0 gno := by
  refine g_start (by decide +kernel) (Nat.le_of_ble_eq_true rfl) ?_
  intro p e s m below meth c ls hx hb hr hlocks hml hown hname hts hwm hl
  have hown : s.vm.findClass "Nearplaces" = some m.cls := hown
  have hal : z.vm.Alike s.vm := hwm.alike
  have hCF : CallFix p m c cX1_isCloseBy 2 s [.double x].toArray lw_all "Nearplaces" := ⟨hx, hb, hml, hown, hts⟩
  have hl : lv_has ls 2 [(0, .double x)] := hl
  refine lv_dload_n hx hb dX1_isCloseBy_0 rfl (lv_at hl 0 rfl) ?_
  refine gcS1_iP hCF hwm hl.1 (m_offsetOf l z H0 x k hx0 hk ) (lw_S q1879 q1880 q65 q1881) yd_X1_offsetOf ⟨Nat.le_of_ble_eq_true rfl, Nat.le_of_ble_eq_true rfl⟩ ⟨Nat.le_of_ble_eq_true rfl, Nat.le_of_ble_eq_true rfl⟩ (Nat.le_of_ble_eq_true rfl) dX1_isCloseBy_1 (fun r_1 hp => ?_)
  subst hp
  refine lv_bipush (v := -2) hx hb dX1_isCloseBy_4 (by decide) ?_
  refine lv_iconst (v := 1) hx hb dX1_isCloseBy_6 (by decide) ?_
  refine gcS3_iP hCF hwm hl.1 (m_isIn l z H0 (iI (ofs x)) (-2) 1  ) (lw_S q1485 q1486 q65 q1487) yd_X1_isIn ⟨Nat.le_of_ble_eq_true rfl, Nat.le_of_ble_eq_true rfl⟩ ⟨Nat.le_of_ble_eq_true rfl, Nat.le_of_ble_eq_true rfl⟩ (Nat.le_of_ble_eq_true rfl) dX1_isCloseBy_7 (fun r_2 hp => ?_)
  subst hp
  refine g_zretP hx hb hr hlocks (gb_narrow _) ?_ dX1_isCloseBy_10
  have h := ofs_b x
  unfold near
  exact gb_dec (by rw [Int32.le_iff_toInt_le, Int32.le_iff_toInt_le, iI_toInt (by omega) (by omega)]; exact Iff.rfl)
set_option maxHeartbeats 1000000 in
theorem m_areAddable (l : Launch) (z : State) (H0 : Heap) (x : UInt64) (y : UInt64)  {A : Nat → Prop} (k : Nat → Nat) (hx0 : dNum x) (hy0 : dNum y) (hk : sN z k A H0) : Met l yX1_areAddable (ws_ yX1_areAddable cX1_areAddable 4 (some .boolean)) { frames := 6, cells := 0, slots := 0, locals := 129 } (gPc z H0 [.double x, .double y]) (gPi H0 (fun r => r = gb (addable x y))) 0 0 gno := by
  refine g_start (by decide +kernel) (Nat.le_of_ble_eq_true rfl) ?_
  intro p e s m below meth c ls hx hb hr hlocks hml hown hname hts hwm hl
  have hown : s.vm.findClass "Nearplaces" = some m.cls := hown
  have hal : z.vm.Alike s.vm := hwm.alike
  have hCF : CallFix p m c cX1_areAddable 4 s [.double x, .double y].toArray lw_all "Nearplaces" := ⟨hx, hb, hml, hown, hts⟩
  have hl : lv_has ls 4 [(0, .double x), (2, .double y)] := hl
  refine lv_dload_n hx hb dX1_areAddable_0 rfl (lv_at hl 0 rfl) ?_
  refine gcS1_iP hCF hwm hl.1 (m_isCloseBy l z H0 x k hx0 hk ) (lw_S q1894 q1895 q65 q1896) yd_X1_isCloseBy ⟨Nat.le_of_ble_eq_true rfl, Nat.le_of_ble_eq_true rfl⟩ ⟨Nat.le_of_ble_eq_true rfl, Nat.le_of_ble_eq_true rfl⟩ (Nat.le_of_ble_eq_true rfl) dX1_areAddable_1 (fun r_1 hp => ?_)
  subst hp
  refine lv_if_eq (tgt := 38) hx hb dX1_areAddable_4 (by decide) (fun c_4 => ?_) (fun c_4 => ?_)
  · skip
    refine lv_iconst (v := 0) hx hb dX1_areAddable_38 (by decide) ?_
    refine g_zretP hx hb hr hlocks (rfl) ?_ dX1_areAddable_39
    have hx1 := dE_max hx0
    have hy1 := dE_max hy0
    unfold addable
    simp only [gb_0] at *
    try rw [show (2045 : Int32) = nI 2045 from rfl, nI_ltI (by omega) (by omega)] at c_21
    try rw [show (2045 : Int32) = nI 2045 from rfl, nI_ltI (by omega) (by omega)] at c_31
    simp_all [gb]
    try omega
  · skip
    refine lv_dload_n hx hb dX1_areAddable_7 rfl (lv_at hl 1 rfl) ?_
    refine gcS1_iP hCF hwm hl.1 (m_isCloseBy l z H0 y k hy0 hk ) (lw_S q1894 q1895 q65 q1896) yd_X1_isCloseBy ⟨Nat.le_of_ble_eq_true rfl, Nat.le_of_ble_eq_true rfl⟩ ⟨Nat.le_of_ble_eq_true rfl, Nat.le_of_ble_eq_true rfl⟩ (Nat.le_of_ble_eq_true rfl) dX1_areAddable_8 (fun r_2 hp => ?_)
    subst hp
    refine lv_if_eq (tgt := 38) hx hb dX1_areAddable_11 (by decide) (fun c_11 => ?_) (fun c_11 => ?_)
    · skip
      refine lv_iconst (v := 0) hx hb dX1_areAddable_38 (by decide) ?_
      refine g_zretP hx hb hr hlocks (rfl) ?_ dX1_areAddable_39
      have hx1 := dE_max hx0
      have hy1 := dE_max hy0
      unfold addable
      simp only [gb_0] at *
      try rw [show (2045 : Int32) = nI 2045 from rfl, nI_ltI (by omega) (by omega)] at c_21
      try rw [show (2045 : Int32) = nI 2045 from rfl, nI_ltI (by omega) (by omega)] at c_31
      simp_all [gb]
      try omega
    · skip
      refine lv_dload_n hx hb dX1_areAddable_14 rfl (lv_at hl 0 rfl) ?_
      refine gcS1_iP hCF hwm hl.1 (m_exponentOf l z H0 x hx0 ) (lw_S q380 q381 q65 q382) yd_X1_exponentOf ⟨Nat.le_of_ble_eq_true rfl, Nat.le_of_ble_eq_true rfl⟩ ⟨Nat.le_of_ble_eq_true rfl, Nat.le_of_ble_eq_true rfl⟩ (Nat.le_of_ble_eq_true rfl) dX1_areAddable_15 (fun r_3 hp => ?_)
      subst hp
      refine lv_sipush (v := 2045) hx hb dX1_areAddable_18 (by decide) ?_
      refine lv_icmp_gt (tgt := 38) hx hb dX1_areAddable_21 (by decide) (fun c_21 => ?_) (fun c_21 => ?_)
      · skip
        refine lv_iconst (v := 0) hx hb dX1_areAddable_38 (by decide) ?_
        refine g_zretP hx hb hr hlocks (rfl) ?_ dX1_areAddable_39
        have hx1 := dE_max hx0
        have hy1 := dE_max hy0
        unfold addable
        simp only [gb_0] at *
        try rw [show (2045 : Int32) = nI 2045 from rfl, nI_ltI (by omega) (by omega)] at c_21
        try rw [show (2045 : Int32) = nI 2045 from rfl, nI_ltI (by omega) (by omega)] at c_31
        simp_all [gb]
        try omega
      · skip
        refine lv_dload_n hx hb dX1_areAddable_24 rfl (lv_at hl 1 rfl) ?_
        refine gcS1_iP hCF hwm hl.1 (m_exponentOf l z H0 y hy0 ) (lw_S q380 q381 q65 q382) yd_X1_exponentOf ⟨Nat.le_of_ble_eq_true rfl, Nat.le_of_ble_eq_true rfl⟩ ⟨Nat.le_of_ble_eq_true rfl, Nat.le_of_ble_eq_true rfl⟩ (Nat.le_of_ble_eq_true rfl) dX1_areAddable_25 (fun r_4 hp => ?_)
        subst hp
        refine lv_sipush (v := 2045) hx hb dX1_areAddable_28 (by decide) ?_
        refine lv_icmp_gt (tgt := 38) hx hb dX1_areAddable_31 (by decide) (fun c_31 => ?_) (fun c_31 => ?_)
        · skip
          refine lv_iconst (v := 0) hx hb dX1_areAddable_38 (by decide) ?_
          refine g_zretP hx hb hr hlocks (rfl) ?_ dX1_areAddable_39
          have hx1 := dE_max hx0
          have hy1 := dE_max hy0
          unfold addable
          simp only [gb_0] at *
          try rw [show (2045 : Int32) = nI 2045 from rfl, nI_ltI (by omega) (by omega)] at c_21
          try rw [show (2045 : Int32) = nI 2045 from rfl, nI_ltI (by omega) (by omega)] at c_31
          simp_all [gb]
          try omega
        · skip
          refine lv_iconst (v := 1) hx hb dX1_areAddable_34 (by decide) ?_
          refine lv_goto (tgt := 39) hx hb dX1_areAddable_35 (by decide) ?_
          refine g_zretP hx hb hr hlocks (rfl) ?_ dX1_areAddable_39
          have hx1 := dE_max hx0
          have hy1 := dE_max hy0
          unfold addable
          simp only [gb_0] at *
          try rw [show (2045 : Int32) = nI 2045 from rfl, nI_ltI (by omega) (by omega)] at c_21
          try rw [show (2045 : Int32) = nI 2045 from rfl, nI_ltI (by omega) (by omega)] at c_31
          simp_all [gb]
          try omega
set_option maxHeartbeats 1000000 in
theorem m_signed (l : Launch) (z : State) (H0 : Heap) (x : UInt64) (b : Bool)  : Met l yX1_signed (ws_ yX1_signed cX1_signed 3 (some .double)) { frames := 0, cells := 0, slots := 0, locals := 0 } (gPc z H0 [.double x, .int (gb b)]) (gPd H0 (fun r => r = sgd x b)) 0 0 gno := by
  refine g_start (by decide +kernel) (Nat.le_of_ble_eq_true rfl) ?_
  intro p e s m below meth c ls hx hb hr hlocks hml hown hname hts hwm hl
  have hown : s.vm.findClass "Nearplaces" = some m.cls := hown
  have hal : z.vm.Alike s.vm := hwm.alike
  have hCF : CallFix p m c cX1_signed 3 s [.double x, .int (gb b)].toArray lw_all "Nearplaces" := ⟨hx, hb, hml, hown, hts⟩
  have hl : lv_has ls 3 [(0, .double x), (2, .int (gb b))] := hl
  refine lv_iload_n hx hb dX1_signed_0 rfl (lv_at hl 1 rfl) ?_
  refine lv_if_eq (tgt := 9) hx hb dX1_signed_1 (by decide) (fun c_1 => ?_) (fun c_1 => ?_)
  · skip
    refine lv_dload_n hx hb dX1_signed_9 rfl (lv_at hl 0 rfl) ?_
    refine g_dretP hx hb hr hlocks ?_ dX1_signed_10
    unfold sgd
    cases b <;> first | rfl | exact absurd rfl c_1 | exact absurd c_1 (by decide)
  · skip
    refine lv_dload_n hx hb dX1_signed_4 rfl (lv_at hl 0 rfl) ?_
    refine lv_dneg hx hb dX1_signed_5 ?_
    refine lv_goto (tgt := 10) hx hb dX1_signed_6 (by decide) ?_
    refine g_dretP hx hb hr hlocks ?_ dX1_signed_10
    unfold sgd
    cases b <;> first | rfl | exact absurd rfl c_1 | exact absurd c_1 (by decide)
set_option maxHeartbeats 1000000 in
theorem m_middleOf (l : Launch) (z : State) (H0 : Heap)  (a b : Int) (h1 : -9223372036854775808 ≤ a) (h2 : a < 9223372036854775808) (h3 : -9223372036854775808 ≤ b) (h4 : b < 9223372036854775808) : Met l yX1_middleOf (ws_ yX1_middleOf cX1_middleOf 4 (some .long)) { frames := 0, cells := 0, slots := 0, locals := 0 } (gPc z H0 [.long (lI a), .long (lI b)]) (gPl H0 (fun r => r = lI ((a + b) / 2))) 0 0 gno := by
  refine g_start (by decide +kernel) (Nat.le_of_ble_eq_true rfl) ?_
  intro p e s m below meth c ls hx hb hr hlocks hml hown hname hts hwm hl
  have hown : s.vm.findClass "Nearplaces" = some m.cls := hown
  have hal : z.vm.Alike s.vm := hwm.alike
  have hCF : CallFix p m c cX1_middleOf 4 s [.long (lI a), .long (lI b)].toArray lw_all "Nearplaces" := ⟨hx, hb, hml, hown, hts⟩
  have hl : lv_has ls 4 [(0, .long (lI a)), (2, .long (lI b))] := hl
  refine lv_lload_n hx hb dX1_middleOf_0 rfl (lv_at hl 0 rfl) ?_
  refine lv_iconst (v := 1) hx hb dX1_middleOf_1 (by decide) ?_
  refine lv_lshr hx hb dX1_middleOf_2 rfl ?_
  refine lv_lload_n hx hb dX1_middleOf_3 rfl (lv_at hl 1 rfl) ?_
  refine lv_iconst (v := 1) hx hb dX1_middleOf_4 (by decide) ?_
  refine lv_lshr hx hb dX1_middleOf_5 rfl ?_
  refine lv_ladd hx hb dX1_middleOf_6 ?_
  refine lv_lload_n hx hb dX1_middleOf_7 rfl (lv_at hl 0 rfl) ?_
  refine lv_lload_n hx hb dX1_middleOf_8 rfl (lv_at hl 1 rfl) ?_
  refine lv_land hx hb dX1_middleOf_9 ?_
  refine lv_lconst (v := 1) hx hb dX1_middleOf_10 (by decide) ?_
  refine lv_land hx hb dX1_middleOf_11 ?_
  refine lv_ladd hx hb dX1_middleOf_12 ?_
  refine g_lretP hx hb hr hlocks ?_ dX1_middleOf_13
  exact mid_ok h1 h2 h3 h4
set_option maxHeartbeats 1000000 in
theorem m_powerOfShift (l : Launch) (z : State) (H0 : Heap)  (n : Int) (h1 : -128 ≤ n) (h2 : n ≤ 127) : Met l yX1_powerOfShift (ws_ yX1_powerOfShift cX1_powerOfShift 1 (some .int)) { frames := 0, cells := 0, slots := 0, locals := 0 } (gPc z H0 [.int (iI n)]) (gPi H0 (fun r => r = iI (psh n))) 0 0 gno := by
  refine g_start (by decide +kernel) (Nat.le_of_ble_eq_true rfl) ?_
  intro p e s m below meth c ls hx hb hr hlocks hml hown hname hts hwm hl
  have hown : s.vm.findClass "Nearplaces" = some m.cls := hown
  have hal : z.vm.Alike s.vm := hwm.alike
  have hCF : CallFix p m c cX1_powerOfShift 1 s [.int (iI n)].toArray lw_all "Nearplaces" := ⟨hx, hb, hml, hown, hts⟩
  have hl : lv_has ls 1 [(0, .int (iI n))] := hl
  refine lv_iload_n hx hb dX1_powerOfShift_0 rfl (lv_at hl 0 rfl) ?_
  refine lv_bipush (v := -64) hx hb dX1_powerOfShift_1 (by decide) ?_
  refine lv_icmp_ge (tgt := 17) hx hb dX1_powerOfShift_3 (by decide) (fun c_3 => ?_) (fun c_3 => ?_)
  · skip
    refine lv_iload_n hx hb dX1_powerOfShift_17 rfl (lv_at hl 0 rfl) ?_
    refine lv_bipush (v := 64) hx hb dX1_powerOfShift_18 (by decide) ?_
    refine lv_icmp_ge (tgt := 27) hx hb dX1_powerOfShift_20 (by decide) (fun c_20 => ?_) (fun c_20 => ?_)
    · skip
      refine lv_iload_n hx hb dX1_powerOfShift_27 rfl (lv_at hl 0 rfl) ?_
      refine lv_bipush (v := 64) hx hb dX1_powerOfShift_28 (by decide) ?_
      refine lv_isub hx hb dX1_powerOfShift_30 ?_
      refine lv_iconst (v := 1) hx hb dX1_powerOfShift_31 (by decide) ?_
      refine lv_iadd hx hb dX1_powerOfShift_32 ?_
      refine lv_bipush (v := 33) hx hb dX1_powerOfShift_33 (by decide) ?_
      refine lv_imul hx hb dX1_powerOfShift_35 ?_
      refine lv_bipush (v := 64) hx hb dX1_powerOfShift_36 (by decide) ?_
      refine lv_iadd hx hb dX1_powerOfShift_38 ?_
      refine lv_iconst (v := 1) hx hb dX1_powerOfShift_39 (by decide) ?_
      refine lv_isub hx hb dX1_powerOfShift_40 ?_
      refine g_iretP hx hb hr hlocks ?_ dX1_powerOfShift_41
      have h := psh_ok (n + 128).toNat (by omega)
      rw [show (((n + 128).toNat : Nat) : Int) - 128 = n by omega] at h
      rw [← h]
      rw [if_neg (Int32.not_lt.mpr c_3)]
      first | rw [if_pos (Int32.not_le.mp c_20)] | rw [if_neg (Int32.not_lt.mpr c_20)]
    · skip
      refine lv_iload_n hx hb dX1_powerOfShift_23 rfl (lv_at hl 0 rfl) ?_
      refine lv_goto (tgt := 41) hx hb dX1_powerOfShift_24 (by decide) ?_
      refine g_iretP hx hb hr hlocks ?_ dX1_powerOfShift_41
      have h := psh_ok (n + 128).toNat (by omega)
      rw [show (((n + 128).toNat : Nat) : Int) - 128 = n by omega] at h
      rw [← h]
      rw [if_neg (Int32.not_lt.mpr c_3)]
      first | rw [if_pos (Int32.not_le.mp c_20)] | rw [if_neg (Int32.not_lt.mpr c_20)]
  · skip
    refine lv_iload_n hx hb dX1_powerOfShift_6 rfl (lv_at hl 0 rfl) ?_
    refine lv_bipush (v := 64) hx hb dX1_powerOfShift_7 (by decide) ?_
    refine lv_iadd hx hb dX1_powerOfShift_9 ?_
    refine lv_bipush (v := 33) hx hb dX1_powerOfShift_10 (by decide) ?_
    refine lv_imul hx hb dX1_powerOfShift_12 ?_
    refine lv_bipush (v := 64) hx hb dX1_powerOfShift_13 (by decide) ?_
    refine lv_isub hx hb dX1_powerOfShift_15 ?_
    refine g_iretP hx hb hr hlocks ?_ dX1_powerOfShift_16
    have h := psh_ok (n + 128).toNat (by omega)
    rw [show (((n + 128).toNat : Nat) : Int) - 128 = n by omega] at h
    rw [← h]
    rw [if_pos (Int32.not_le.mp c_3)]
set_option maxHeartbeats 1000000 in
theorem m_powerAtLeast (l : Launch) (z : State) (H0 : Heap) (x : UInt64)  (hx0 : dNum x) : Met l yX1_powerAtLeast (ws_ yX1_powerAtLeast cX1_powerAtLeast 2 (some .int)) { frames := 2, cells := 0, slots := 0, locals := 44 } (gPc z H0 [.double x]) (gPi H0 (fun r => r = iI (max ((dE x : Int) - 1023) (-1022)))) 0 0 gno := by
  refine g_start (by decide +kernel) (Nat.le_of_ble_eq_true rfl) ?_
  intro p e s m below meth c ls hx hb hr hlocks hml hown hname hts hwm hl
  have hown : s.vm.findClass "Nearplaces" = some m.cls := hown
  have hal : z.vm.Alike s.vm := hwm.alike
  have hCF : CallFix p m c cX1_powerAtLeast 2 s [.double x].toArray lw_all "Nearplaces" := ⟨hx, hb, hml, hown, hts⟩
  have hl : lv_has ls 2 [(0, .double x)] := hl
  refine lv_dload_n hx hb dX1_powerAtLeast_0 rfl (lv_at hl 0 rfl) ?_
  refine gcS1_iP hCF hwm hl.1 (m_getExponent l z H0 x hx0 ) (lw_S q2160 q885 q72 q886) yd_J12_getExponent ⟨Nat.le_of_ble_eq_true rfl, Nat.le_of_ble_eq_true rfl⟩ ⟨Nat.le_of_ble_eq_true rfl, Nat.le_of_ble_eq_true rfl⟩ (Nat.le_of_ble_eq_true rfl) dX1_powerAtLeast_1 (fun r_1 hp => ?_)
  subst hp
  refine lv_sipush (v := -1022) hx hb dX1_powerAtLeast_4 (by decide) ?_
  refine gcS2_iP hCF hwm hl.1 (m_maxI l z H0 (iI ((dE x : Int) - 1023)) (-1022)  ) (lw_S q427 q267 q72 q268) yd_J12_max ⟨Nat.le_of_ble_eq_true rfl, Nat.le_of_ble_eq_true rfl⟩ ⟨Nat.le_of_ble_eq_true rfl, Nat.le_of_ble_eq_true rfl⟩ (Nat.le_of_ble_eq_true rfl) dX1_powerAtLeast_7 (fun r_2 hp => ?_)
  subst hp
  refine g_iretP hx hb hr hlocks ?_ dX1_powerAtLeast_10
  have h := dE_max hx0
  have h9 := iI_max (a := (dE x : Int) - 1023) (b := -1022) (by omega) (by omega) (by decide) (by decide)
  exact h9
set_option maxHeartbeats 1000000 in
theorem m_unitOf (l : Launch) (z : State) (H0 : Heap) (x : UInt64)  {A : Nat → Prop} (k : Nat → Nat) (hx0 : dFin x) (hk : sN z k A H0) : Met l yX1_unitOf (ws_ yX1_unitOf cX1_unitOf 2 (some .double)) { frames := 3, cells := 0, slots := 0, locals := 71 } (gPc z H0 [.double x]) (gPd H0 (fun r => r = dUl x)) 0 0 gno := by
  refine g_start (by decide +kernel) (Nat.le_of_ble_eq_true rfl) ?_
  intro p e s m below meth c ls hx hb hr hlocks hml hown hname hts hwm hl
  have hown : s.vm.findClass "Nearplaces" = some m.cls := hown
  have hal : z.vm.Alike s.vm := hwm.alike
  have hCF : CallFix p m c cX1_unitOf 2 s [.double x].toArray lw_all "Nearplaces" := ⟨hx, hb, hml, hown, hts⟩
  have hl : lv_has ls 2 [(0, .double x)] := hl
  refine lv_dconst1 hx hb dX1_unitOf_0 ?_
  refine lv_dload_n hx hb dX1_unitOf_1 rfl (lv_at hl 0 rfl) ?_
  refine gcS1_iP hCF hwm hl.1 (m_powerAtLeast l z H0 x hx0.num ) (lw_S q2157 q2158 q65 q2159) yd_X1_powerAtLeast ⟨Nat.le_of_ble_eq_true rfl, Nat.le_of_ble_eq_true rfl⟩ ⟨Nat.le_of_ble_eq_true rfl, Nat.le_of_ble_eq_true rfl⟩ (Nat.le_of_ble_eq_true rfl) dX1_unitOf_2 (fun r_1 hp => ?_)
  subst hp
  refine lv_bipush (v := 52) hx hb dX1_unitOf_5 (by decide) ?_
  refine lv_isub hx hb dX1_unitOf_7 ?_
  refine g_topi (v := (iI (max ((dE x : Int) - 1023) (-1022) - 52))) ((iI_sub (b := 52))) ?_
  refine gcS2_dP hCF hwm hl.1 (m_scalb l z H0 FP.dconst1 (max ((dE x : Int) - 1023) (-1022) - 52) k one_fin (by have := dE_lt hx0; omega) (by have := dE_lt hx0; omega) hk ) (lw_S q1460 q1461 q72 q1462) yd_J12_scalb ⟨Nat.le_of_ble_eq_true rfl, Nat.le_of_ble_eq_true rfl⟩ ⟨Nat.le_of_ble_eq_true rfl, Nat.le_of_ble_eq_true rfl⟩ (Nat.le_of_ble_eq_true rfl) dX1_unitOf_8 (fun r_2 hp => ?_)
  subst hp
  refine g_dretP hx hb hr hlocks ?_ dX1_unitOf_11
  exact unit_ok hx0
set_option maxHeartbeats 1000000 in
theorem m_fullOf (l : Launch) (z : State) (H0 : Heap) (x : UInt64)  (hx0 : dNum x) : Met l yX1_fullOf (ws_ yX1_fullOf cX1_fullOf 2 (some .long)) { frames := 5, cells := 0, slots := 0, locals := 107 } (gPc z H0 [.double x]) (gPl H0 (fun r => r = lN (dC x))) 0 0 gno := by
  refine g_start (by decide +kernel) (Nat.le_of_ble_eq_true rfl) ?_
  intro p e s m below meth c ls hx hb hr hlocks hml hown hname hts hwm hl
  have hown : s.vm.findClass "Nearplaces" = some m.cls := hown
  have hal : z.vm.Alike s.vm := hwm.alike
  have hCF : CallFix p m c cX1_fullOf 2 s [.double x].toArray lw_all "Nearplaces" := ⟨hx, hb, hml, hown, hts⟩
  have hl : lv_has ls 2 [(0, .double x)] := hl
  refine lv_dload_n hx hb dX1_fullOf_0 rfl (lv_at hl 0 rfl) ?_
  refine gcS1_lP hCF hwm hl.1 (m_pointOf l z H0 x hx0 ) (lw_S q375 q376 q65 q377) yd_X1_pointOf ⟨Nat.le_of_ble_eq_true rfl, Nat.le_of_ble_eq_true rfl⟩ ⟨Nat.le_of_ble_eq_true rfl, Nat.le_of_ble_eq_true rfl⟩ (Nat.le_of_ble_eq_true rfl) dX1_fullOf_1 (fun r_1 hp => ?_)
  subst hp
  refine lv_ldc2 (v := 4503599627370495) hx hb hown (hts _ q379) dX1_fullOf_4 ?_
  refine lv_land hx hb dX1_fullOf_7 ?_
  refine g_topl (v := (lN (dF x))) (full_ok) ?_
  refine lv_dload_n hx hb dX1_fullOf_8 rfl (lv_at hl 0 rfl) ?_
  refine gcS1_iP hCF hwm hl.1 (m_exponentOf l z H0 x hx0 ) (lw_S q380 q381 q65 q382) yd_X1_exponentOf ⟨Nat.le_of_ble_eq_true rfl, Nat.le_of_ble_eq_true rfl⟩ ⟨Nat.le_of_ble_eq_true rfl, Nat.le_of_ble_eq_true rfl⟩ (Nat.le_of_ble_eq_true rfl) dX1_fullOf_9 (fun r_2 hp => ?_)
  subst hp
  refine lv_if_ne (tgt := 19) hx hb dX1_fullOf_12 (by decide) (fun c_12 => ?_) (fun c_12 => ?_)
  · skip
    refine lv_ldc2 (v := 4503599627370496) hx hb hown (hts _ q383) dX1_fullOf_19 ?_
    refine lv_lor hx hb dX1_fullOf_22 ?_
    refine g_lretP hx hb hr hlocks ?_ dX1_fullOf_23
    have h := dE_max hx0
    unfold dC
    first | (rw [if_neg (fun e => c_12 (by rw [e]; rfl))]; exact full_or (dF_lt x)) | (rw [if_pos (by have := (nI_eq (a := dE x) (b := 0) (by omega) (by omega)).mp c_12; exact this)]; exact full_or0)
  · skip
    refine lv_lconst (v := 0) hx hb dX1_fullOf_15 (by decide) ?_
    refine lv_goto (tgt := 22) hx hb dX1_fullOf_16 (by decide) ?_
    refine lv_lor hx hb dX1_fullOf_22 ?_
    refine g_lretP hx hb hr hlocks ?_ dX1_fullOf_23
    have h := dE_max hx0
    unfold dC
    first | (rw [if_neg (fun e => c_12 (by rw [e]; rfl))]; exact full_or (dF_lt x)) | (rw [if_pos (by have := (nI_eq (a := dE x) (b := 0) (by omega) (by omega)).mp c_12; exact this)]; exact full_or0)
set_option maxHeartbeats 1000000 in
theorem m_wholeOf (l : Launch) (z : State) (H0 : Heap) (x : UInt64)  (hx0 : dFin x) : Met l yX1_wholeOf (ws_ yX1_wholeOf cX1_wholeOf 4 (some .long)) { frames := 6, cells := 0, slots := 0, locals := 128 } (gPc z H0 [.double x]) (gPl H0 (fun r => r = lN (dW x))) 0 0 gno := by
  refine g_start (by decide +kernel) (Nat.le_of_ble_eq_true rfl) ?_
  intro p e s m below meth c ls hx hb hr hlocks hml hown hname hts hwm hl
  have hown : s.vm.findClass "Nearplaces" = some m.cls := hown
  have hal : z.vm.Alike s.vm := hwm.alike
  have hCF : CallFix p m c cX1_wholeOf 4 s [.double x].toArray lw_all "Nearplaces" := ⟨hx, hb, hml, hown, hts⟩
  have hl : lv_has ls 4 [(0, .double x)] := hl
  refine lv_dload_n hx hb dX1_wholeOf_0 rfl (lv_at hl 0 rfl) ?_
  refine gcS1_lP hCF hwm hl.1 (m_fullOf l z H0 x hx0.num ) (lw_S q372 q373 q65 q374) yd_X1_fullOf ⟨Nat.le_of_ble_eq_true rfl, Nat.le_of_ble_eq_true rfl⟩ ⟨Nat.le_of_ble_eq_true rfl, Nat.le_of_ble_eq_true rfl⟩ (Nat.le_of_ble_eq_true rfl) dX1_wholeOf_1 (fun r_1 hp => ?_)
  subst hp
  refine lv_topl (fun u eu => ?_)
  refine lv_lstore_n hx hb dX1_wholeOf_4 rfl hl (by decide) rfl (fun ls hl => ?_)
  have hl : lv_has ls 4 [(2, .long u), (0, .double x)] := hl
  refine lv_lload_n hx hb dX1_wholeOf_5 rfl (lv_at hl 0 rfl) ?_
  refine lv_lconst (v := 0) hx hb dX1_wholeOf_6 (by decide) ?_
  refine W.lcmp hx hb dX1_wholeOf_7 ?_
  refine lv_if_ne (tgt := 15) hx hb dX1_wholeOf_8 (by decide) (fun c_8 => ?_) (fun c_8 => ?_)
  · skip
    have hc2 := dC_lt hx0
    have hc : dC x ≠ 0 := by
      intro q
      refine c_8 (lc_eq.mpr ?_)
      rw [eu, q]; rfl
    subst eu
    refine lv_lload_n hx hb dX1_wholeOf_15 rfl (lv_at hl 0 rfl) ?_
    refine lv_lload_n hx hb dX1_wholeOf_16 rfl (lv_at hl 0 rfl) ?_
    refine gcS1_iP hCF hwm hl.1 (m_ntzL l z H0  (dC x) (by omega) (by omega) ) (lw_S q384 q385 q77 q386) yd_J16_numberOfTrailingZeros ⟨Nat.le_of_ble_eq_true rfl, Nat.le_of_ble_eq_true rfl⟩ ⟨Nat.le_of_ble_eq_true rfl, Nat.le_of_ble_eq_true rfl⟩ (Nat.le_of_ble_eq_true rfl) dX1_wholeOf_17 (fun r_2 hp => ?_)
    subst hp
    refine lv_lshr hx hb dX1_wholeOf_20 rfl ?_
    refine g_lretP hx hb hr hlocks ?_ dX1_wholeOf_21
    unfold dW
    first | (rw [if_pos hc]; rfl) | (rw [if_neg hc]; exact lN_sar (by omega) (tz_spec (by omega) (by omega)).1)
  · skip
    have hc2 := dC_lt hx0
    have hc : dC x = 0 := by
      have := lc_eq.mp c_8
      rw [eu, pk_lT (by omega)] at this
      simpa using this
    refine lv_lconst (v := 0) hx hb dX1_wholeOf_11 (by decide) ?_
    refine lv_goto (tgt := 21) hx hb dX1_wholeOf_12 (by decide) ?_
    refine g_lretP hx hb hr hlocks ?_ dX1_wholeOf_21
    unfold dW
    first | (rw [if_pos hc]; rfl) | (rw [if_neg hc]; exact lN_sar (by omega) (tz_spec (by omega) (by omega)).1)
set_option maxHeartbeats 1000000 in
theorem m_raiseOf (l : Launch) (z : State) (H0 : Heap) (x : UInt64)  (hx0 : dFin x) : Met l yX1_raiseOf (ws_ yX1_raiseOf cX1_raiseOf 4 (some .int)) { frames := 6, cells := 0, slots := 0, locals := 128 } (gPc z H0 [.double x]) (gPi H0 (fun r => r = iI (dR x))) 0 0 gno := by
  refine g_start (by decide +kernel) (Nat.le_of_ble_eq_true rfl) ?_
  intro p e s m below meth c ls hx hb hr hlocks hml hown hname hts hwm hl
  have hown : s.vm.findClass "Nearplaces" = some m.cls := hown
  have hal : z.vm.Alike s.vm := hwm.alike
  have hCF : CallFix p m c cX1_raiseOf 4 s [.double x].toArray lw_all "Nearplaces" := ⟨hx, hb, hml, hown, hts⟩
  have hl : lv_has ls 4 [(0, .double x)] := hl
  refine lv_dload_n hx hb dX1_raiseOf_0 rfl (lv_at hl 0 rfl) ?_
  refine gcS1_lP hCF hwm hl.1 (m_fullOf l z H0 x hx0.num ) (lw_S q372 q373 q65 q374) yd_X1_fullOf ⟨Nat.le_of_ble_eq_true rfl, Nat.le_of_ble_eq_true rfl⟩ ⟨Nat.le_of_ble_eq_true rfl, Nat.le_of_ble_eq_true rfl⟩ (Nat.le_of_ble_eq_true rfl) dX1_raiseOf_1 (fun r_1 hp => ?_)
  subst hp
  refine lv_topl (fun u eu => ?_)
  refine lv_lstore_n hx hb dX1_raiseOf_4 rfl hl (by decide) rfl (fun ls hl => ?_)
  have hl : lv_has ls 4 [(2, .long u), (0, .double x)] := hl
  refine lv_lload_n hx hb dX1_raiseOf_5 rfl (lv_at hl 0 rfl) ?_
  refine lv_lconst (v := 0) hx hb dX1_raiseOf_6 (by decide) ?_
  refine W.lcmp hx hb dX1_raiseOf_7 ?_
  refine lv_if_ne (tgt := 15) hx hb dX1_raiseOf_8 (by decide) (fun c_8 => ?_) (fun c_8 => ?_)
  · skip
    have hc2 := dC_lt hx0
    have hE := dE_lt hx0
    have hc : dC x ≠ 0 := by
      intro q
      refine c_8 (lc_eq.mpr ?_)
      rw [eu, q]; rfl
    subst eu
    refine lv_sipush (v := -1075) hx hb dX1_raiseOf_15 (by decide) ?_
    refine lv_dload_n hx hb dX1_raiseOf_18 rfl (lv_at hl 1 rfl) ?_
    refine gcS1_iP hCF hwm hl.1 (m_exponentOf l z H0 x hx0.num ) (lw_S q380 q381 q65 q382) yd_X1_exponentOf ⟨Nat.le_of_ble_eq_true rfl, Nat.le_of_ble_eq_true rfl⟩ ⟨Nat.le_of_ble_eq_true rfl, Nat.le_of_ble_eq_true rfl⟩ (Nat.le_of_ble_eq_true rfl) dX1_raiseOf_19 (fun r_2 hp => ?_)
    subst hp
    refine lv_iconst (v := 1) hx hb dX1_raiseOf_22 (by decide) ?_
    refine gcS2_iP hCF hwm hl.1 (m_maxI l z H0 (nI (dE x)) 1  ) (lw_S q427 q267 q72 q268) yd_J12_max ⟨Nat.le_of_ble_eq_true rfl, Nat.le_of_ble_eq_true rfl⟩ ⟨Nat.le_of_ble_eq_true rfl, Nat.le_of_ble_eq_true rfl⟩ (Nat.le_of_ble_eq_true rfl) dX1_raiseOf_23 (fun r_3 hp => ?_)
    subst hp
    refine g_topi (v := (iI (max (dE x) 1 : Nat))) ?_ ?_
    · skip
      have h9 := iI_max (a := (dE x : Int)) (b := 1) (by omega) (by omega) (by decide) (by decide)
      rw [show (((max (dE x) 1 : Nat)) : Int) = max (dE x : Int) 1 by omega]
      exact h9
    refine lv_iadd hx hb dX1_raiseOf_26 ?_
    refine lv_lload_n hx hb dX1_raiseOf_27 rfl (lv_at hl 0 rfl) ?_
    refine gcS1_iP hCF hwm hl.1 (m_ntzL l z H0  (dC x) (by omega) (by omega) ) (lw_S q384 q385 q77 q386) yd_J16_numberOfTrailingZeros ⟨Nat.le_of_ble_eq_true rfl, Nat.le_of_ble_eq_true rfl⟩ ⟨Nat.le_of_ble_eq_true rfl, Nat.le_of_ble_eq_true rfl⟩ (Nat.le_of_ble_eq_true rfl) dX1_raiseOf_28 (fun r_4 hp => ?_)
    subst hp
    refine lv_iadd hx hb dX1_raiseOf_31 ?_
    refine g_iretP hx hb hr hlocks ?_ dX1_raiseOf_32
    unfold dR
    first | (rw [if_pos hc]; rfl) | (rw [if_neg hc, show (-1075 : Int32) = iI (-1075) from by decide, nI_iI, iI_add, iI_add])
  · skip
    have hc2 := dC_lt hx0
    have hc : dC x = 0 := by
      have := lc_eq.mp c_8
      rw [eu, pk_lT (by omega)] at this
      simpa using this
    refine lv_iconst (v := 0) hx hb dX1_raiseOf_11 (by decide) ?_
    refine lv_goto (tgt := 32) hx hb dX1_raiseOf_12 (by decide) ?_
    refine g_iretP hx hb hr hlocks ?_ dX1_raiseOf_32
    unfold dR
    first | (rw [if_pos hc]; rfl) | (rw [if_neg hc, show (-1075 : Int32) = iI (-1075) from by decide, nI_iI, iI_add, iI_add])
set_option maxHeartbeats 1000000 in
theorem m_hasDecimal (l : Launch) (z : State) (H0 : Heap) (x : UInt64)  (hx0 : dFin x) : Met l yX1_hasDecimal (ws_ yX1_hasDecimal cX1_hasDecimal 2 (some .boolean)) { frames := 7, cells := 0, slots := 0, locals := 151 } (gPc z H0 [.double x]) (gPi H0 (fun r => r = gb (hasDec x))) 0 0 gno := by
  refine g_start (by decide +kernel) (Nat.le_of_ble_eq_true rfl) ?_
  intro p e s m below meth c ls hx hb hr hlocks hml hown hname hts hwm hl
  have hown : s.vm.findClass "Nearplaces" = some m.cls := hown
  have hal : z.vm.Alike s.vm := hwm.alike
  have hCF : CallFix p m c cX1_hasDecimal 2 s [.double x].toArray lw_all "Nearplaces" := ⟨hx, hb, hml, hown, hts⟩
  have hl : lv_has ls 2 [(0, .double x)] := hl
  refine lv_dload_n hx hb dX1_hasDecimal_0 rfl (lv_at hl 0 rfl) ?_
  refine gcS1_iP hCF hwm hl.1 (m_raiseOf l z H0 x hx0 ) (lw_S q424 q425 q65 q426) yd_X1_raiseOf ⟨Nat.le_of_ble_eq_true rfl, Nat.le_of_ble_eq_true rfl⟩ ⟨Nat.le_of_ble_eq_true rfl, Nat.le_of_ble_eq_true rfl⟩ (Nat.le_of_ble_eq_true rfl) dX1_hasDecimal_1 (fun r_1 hp => ?_)
  subst hp
  refine lv_sipush (v := -200) hx hb dX1_hasDecimal_4 (by decide) ?_
  refine lv_sipush (v := 200) hx hb dX1_hasDecimal_7 (by decide) ?_
  refine gcS3_iP hCF hwm hl.1 (m_isIn l z H0 (iI (dR x)) (-200) 200  ) (lw_S q1485 q1486 q65 q1487) yd_X1_isIn ⟨Nat.le_of_ble_eq_true rfl, Nat.le_of_ble_eq_true rfl⟩ ⟨Nat.le_of_ble_eq_true rfl, Nat.le_of_ble_eq_true rfl⟩ (Nat.le_of_ble_eq_true rfl) dX1_hasDecimal_10 (fun r_2 hp => ?_)
  subst hp
  refine g_zretP hx hb hr hlocks (gb_narrow _) ?_ dX1_hasDecimal_13
  have h := dR_b hx0
  unfold hasDec
  exact gb_dec (by rw [Int32.le_iff_toInt_le, Int32.le_iff_toInt_le, iI_toInt (by omega) (by omega)]; exact Iff.rfl)
set_option maxHeartbeats 1000000 in
theorem m_powerOfUnit (l : Launch) (z : State) (H0 : Heap) (x : UInt64)  {A : Nat → Prop} (k : Nat → Nat) (hx0 : dFin x) (hk : sN z k A H0) : Met l yX1_powerOfUnit (ws_ yX1_powerOfUnit cX1_powerOfUnit 2 (some .int)) { frames := 3, cells := 0, slots := 0, locals := 71 } (gPc z H0 [.double x]) (gPi H0 (fun r => r = iI (max ((dE x : Int) - 1023) (-1022)))) 0 0 gno := by
  refine g_start (by decide +kernel) (Nat.le_of_ble_eq_true rfl) ?_
  intro p e s m below meth c ls hx hb hr hlocks hml hown hname hts hwm hl
  have hown : s.vm.findClass "Nearplaces" = some m.cls := hown
  have hal : z.vm.Alike s.vm := hwm.alike
  have hCF : CallFix p m c cX1_powerOfUnit 2 s [.double x].toArray lw_all "Nearplaces" := ⟨hx, hb, hml, hown, hts⟩
  have hl : lv_has ls 2 [(0, .double x)] := hl
  refine lv_dload_n hx hb dX1_powerOfUnit_0 rfl (lv_at hl 0 rfl) ?_
  refine gcS1_dP hCF hwm hl.1 (m_ulp l z H0 x k hx0 hk ) (lw_S q2144 q2145 q72 q2146) yd_J12_ulp ⟨Nat.le_of_ble_eq_true rfl, Nat.le_of_ble_eq_true rfl⟩ ⟨Nat.le_of_ble_eq_true rfl, Nat.le_of_ble_eq_true rfl⟩ (Nat.le_of_ble_eq_true rfl) dX1_powerOfUnit_1 (fun r_1 hp => ?_)
  subst hp
  refine lv_bipush (v := 52) hx hb dX1_powerOfUnit_4 (by decide) ?_
  refine g_topi (v := (iI 52)) (rfl) ?_
  refine gcS2_dP hCF hwm hl.1 (m_scalb l z H0 (dUl x) 52 k (dUl_P hx0).2.2 (by decide) (by decide) hk ) (lw_S q1460 q1461 q72 q1462) yd_J12_scalb ⟨Nat.le_of_ble_eq_true rfl, Nat.le_of_ble_eq_true rfl⟩ ⟨Nat.le_of_ble_eq_true rfl, Nat.le_of_ble_eq_true rfl⟩ (Nat.le_of_ble_eq_true rfl) dX1_powerOfUnit_6 (fun r_2 hp => ?_)
  subst hp
  refine gcS1_iP hCF hwm hl.1 (m_getExponent l z H0 (dScb (dUl x) 52) (dScb_num _ _) ) (lw_S q2160 q885 q72 q886) yd_J12_getExponent ⟨Nat.le_of_ble_eq_true rfl, Nat.le_of_ble_eq_true rfl⟩ ⟨Nat.le_of_ble_eq_true rfl, Nat.le_of_ble_eq_true rfl⟩ (Nat.le_of_ble_eq_true rfl) dX1_powerOfUnit_9 (fun r_3 hp => ?_)
  subst hp
  refine g_iretP hx hb hr hlocks ?_ dX1_powerOfUnit_12
  rw [punit_ok hx0]
set_option maxHeartbeats 1000000 in
theorem m_lastOf (l : Launch) (z : State) (H0 : Heap) (x : UInt64)  (hx0 : dNum x) : Met l yX1_lastOf (ws_ yX1_lastOf cX1_lastOf 2 (some .int)) { frames := 5, cells := 0, slots := 0, locals := 107 } (gPc z H0 [.double x]) (gPi H0 (fun r => r = nI (if dP x = 0 then 2046 else max (dE x) 1 - 1))) 0 0 gno := by
  refine g_start (by decide +kernel) (Nat.le_of_ble_eq_true rfl) ?_
  intro p e s m below meth c ls hx hb hr hlocks hml hown hname hts hwm hl
  have hown : s.vm.findClass "Nearplaces" = some m.cls := hown
  have hal : z.vm.Alike s.vm := hwm.alike
  have hCF : CallFix p m c cX1_lastOf 2 s [.double x].toArray lw_all "Nearplaces" := ⟨hx, hb, hml, hown, hts⟩
  have hl : lv_has ls 2 [(0, .double x)] := hl
  refine lv_dload_n hx hb dX1_lastOf_0 rfl (lv_at hl 0 rfl) ?_
  refine lv_dconst0 hx hb dX1_lastOf_1 ?_
  refine lv_dcmp hx hb dX1_lastOf_2 ?_
  refine g_topi (v := (cK x FP.dconst0)) (cK_of hx0 num0) ?_
  refine lv_if_ne (tgt := 12) hx hb dX1_lastOf_3 (by decide) (fun c_3 => ?_) (fun c_3 => ?_)
  · skip
    refine lv_dload_n hx hb dX1_lastOf_12 rfl (lv_at hl 0 rfl) ?_
    refine gcS1_iP hCF hwm hl.1 (m_exponentOf l z H0 x hx0 ) (lw_S q380 q381 q65 q382) yd_X1_exponentOf ⟨Nat.le_of_ble_eq_true rfl, Nat.le_of_ble_eq_true rfl⟩ ⟨Nat.le_of_ble_eq_true rfl, Nat.le_of_ble_eq_true rfl⟩ (Nat.le_of_ble_eq_true rfl) dX1_lastOf_13 (fun r_1 hp => ?_)
    subst hp
    refine lv_iconst (v := 1) hx hb dX1_lastOf_16 (by decide) ?_
    refine gcS2_iP hCF hwm hl.1 (m_maxI l z H0 (nI (dE x)) 1  ) (lw_S q427 q267 q72 q268) yd_J12_max ⟨Nat.le_of_ble_eq_true rfl, Nat.le_of_ble_eq_true rfl⟩ ⟨Nat.le_of_ble_eq_true rfl, Nat.le_of_ble_eq_true rfl⟩ (Nat.le_of_ble_eq_true rfl) dX1_lastOf_17 (fun r_2 hp => ?_)
    subst hp
    refine lv_iconst (v := 1) hx hb dX1_lastOf_20 (by decide) ?_
    refine lv_isub hx hb dX1_lastOf_21 ?_
    refine g_iretP hx hb hr hlocks ?_ dX1_lastOf_22
    have hE := dE_max hx0
    rw [cK_eq, dK0, dK_dZ0] at c_3
    first | (rw [if_pos c_3]; rfl) | (rw [if_neg c_3]; exact last_ok hE)
  · skip
    refine lv_sipush (v := 2046) hx hb dX1_lastOf_6 (by decide) ?_
    refine lv_goto (tgt := 22) hx hb dX1_lastOf_9 (by decide) ?_
    refine g_iretP hx hb hr hlocks ?_ dX1_lastOf_22
    have hE := dE_max hx0
    rw [cK_eq, dK0, dK_dZ0] at c_3
    first | (rw [if_pos c_3]; rfl) | (rw [if_neg c_3]; exact last_ok hE)
set_option maxHeartbeats 1000000 in
theorem m_decimalsOf (l : Launch) (z : State) (H0 : Heap) (x : UInt64)  (hx0 : dFin x) : Met l yX1_decimalsOf (ws_ yX1_decimalsOf cX1_decimalsOf 2 (some .int)) { frames := 8, cells := 0, slots := 0, locals := 172 } (gPc z H0 [.double x]) (gPi H0 (fun r => r = iI (decs x))) 0 0 gno := by
  refine g_start (by decide +kernel) (Nat.le_of_ble_eq_true rfl) ?_
  intro p e s m below meth c ls hx hb hr hlocks hml hown hname hts hwm hl
  have hown : s.vm.findClass "Nearplaces" = some m.cls := hown
  have hal : z.vm.Alike s.vm := hwm.alike
  have hCF : CallFix p m c cX1_decimalsOf 2 s [.double x].toArray lw_all "Nearplaces" := ⟨hx, hb, hml, hown, hts⟩
  have hl : lv_has ls 2 [(0, .double x)] := hl
  refine lv_dload_n hx hb dX1_decimalsOf_0 rfl (lv_at hl 0 rfl) ?_
  refine gcS1_iP hCF hwm hl.1 (m_hasDecimal l z H0 x hx0 ) (lw_S q1482 q1483 q65 q1484) yd_X1_hasDecimal ⟨Nat.le_of_ble_eq_true rfl, Nat.le_of_ble_eq_true rfl⟩ ⟨Nat.le_of_ble_eq_true rfl, Nat.le_of_ble_eq_true rfl⟩ (Nat.le_of_ble_eq_true rfl) dX1_decimalsOf_1 (fun r_1 hp => ?_)
  subst hp
  refine lv_if_eq (tgt := 19) hx hb dX1_decimalsOf_4 (by decide) (fun c_4 => ?_) (fun c_4 => ?_)
  · skip
    refine lv_iconst (v := -1) hx hb dX1_decimalsOf_19 (by decide) ?_
    refine g_iretP hx hb hr hlocks ?_ dX1_decimalsOf_20
    have h := dR_b hx0
    unfold decs
    simp only [gb_0] at c_4
    first | (rw [c_4]; rfl) | (rw [if_pos (show hasDec x = true by cases q : hasDec x with | true => rfl | false => exact absurd q c_4)]; have h9 := iI_max (a := -dR x) (b := 0) (by omega) (by omega) (by decide) (by decide); exact h9)
  · skip
    refine lv_dload_n hx hb dX1_decimalsOf_7 rfl (lv_at hl 0 rfl) ?_
    refine gcS1_iP hCF hwm hl.1 (m_raiseOf l z H0 x hx0 ) (lw_S q424 q425 q65 q426) yd_X1_raiseOf ⟨Nat.le_of_ble_eq_true rfl, Nat.le_of_ble_eq_true rfl⟩ ⟨Nat.le_of_ble_eq_true rfl, Nat.le_of_ble_eq_true rfl⟩ (Nat.le_of_ble_eq_true rfl) dX1_decimalsOf_8 (fun r_2 hp => ?_)
    subst hp
    refine lv_ineg hx hb dX1_decimalsOf_11 ?_
    refine g_topi (v := (iI (-dR x))) (iI_neg) ?_
    refine lv_iconst (v := 0) hx hb dX1_decimalsOf_12 (by decide) ?_
    refine gcS2_iP hCF hwm hl.1 (m_maxI l z H0 (iI (-dR x)) 0  ) (lw_S q427 q267 q72 q268) yd_J12_max ⟨Nat.le_of_ble_eq_true rfl, Nat.le_of_ble_eq_true rfl⟩ ⟨Nat.le_of_ble_eq_true rfl, Nat.le_of_ble_eq_true rfl⟩ (Nat.le_of_ble_eq_true rfl) dX1_decimalsOf_13 (fun r_3 hp => ?_)
    subst hp
    refine lv_goto (tgt := 20) hx hb dX1_decimalsOf_16 (by decide) ?_
    refine g_iretP hx hb hr hlocks ?_ dX1_decimalsOf_20
    have h := dR_b hx0
    unfold decs
    simp only [gb_0] at c_4
    first | (rw [c_4]; rfl) | (rw [if_pos (show hasDec x = true by cases q : hasDec x with | true => rfl | false => exact absurd q c_4)]; have h9 := iI_max (a := -dR x) (b := 0) (by omega) (by omega) (by decide) (by decide); exact h9)
set_option maxHeartbeats 1000000 in
theorem m_add (l : Launch) (z : State) (H0 : Heap) (a : Int64) (b : Int64)   : Met l yX1_add (ws_ yX1_add cX1_add 4 (some .long)) { frames := 0, cells := 0, slots := 0, locals := 0 } (gPc z H0 [.long a, .long b]) (gPl H0 (fun r => r = 31 * a + b)) 0 0 gno := by
  refine g_start (by decide +kernel) (Nat.le_of_ble_eq_true rfl) ?_
  intro p e s m below meth c ls hx hb hr hlocks hml hown hname hts hwm hl
  have hown : s.vm.findClass "Nearplaces" = some m.cls := hown
  have hal : z.vm.Alike s.vm := hwm.alike
  have hCF : CallFix p m c cX1_add 4 s [.long a, .long b].toArray lw_all "Nearplaces" := ⟨hx, hb, hml, hown, hts⟩
  have hl : lv_has ls 4 [(0, .long a), (2, .long b)] := hl
  refine lv_ldc2 (v := 31) hx hb hown (hts _ q2396) dX1_add_0 ?_
  refine lv_lload_n hx hb dX1_add_3 rfl (lv_at hl 0 rfl) ?_
  refine lv_lmul hx hb dX1_add_4 ?_
  refine lv_lload_n hx hb dX1_add_5 rfl (lv_at hl 1 rfl) ?_
  refine lv_ladd hx hb dX1_add_6 ?_
  refine g_lretP hx hb hr hlocks ?_ dX1_add_7
  rfl
set_option maxHeartbeats 1000000 in
theorem m_areWithin (l : Launch) (z : State) (H0 : Heap) (x : UInt64) (y : UInt64)  {A : Nat → Prop} (k : Nat → Nat) (hx0 : dFin x) (hy0 : dFin y) (hk : sN z k A H0) : Met l yX1_areWithin (ws_ yX1_areWithin cX1_areWithin 8 (some .boolean)) { frames := 5, cells := 0, slots := 0, locals := 107 } (gPc z H0 [.double x, .double y]) (gPi H0 (fun r => r = gb (wth x y))) 0 0 gno := by
  refine g_start (by decide +kernel) (Nat.le_of_ble_eq_true rfl) ?_
  intro p e s m below meth c ls hx hb hr hlocks hml hown hname hts hwm hl
  have hown : s.vm.findClass "Nearplaces" = some m.cls := hown
  have hal : z.vm.Alike s.vm := hwm.alike
  have hCF : CallFix p m c cX1_areWithin 8 s [.double x, .double y].toArray lw_all "Nearplaces" := ⟨hx, hb, hml, hown, hts⟩
  have hl : lv_has ls 8 [(0, .double x), (2, .double y)] := hl
  refine lv_dload_n hx hb dX1_areWithin_0 rfl (lv_at hl 0 rfl) ?_
  refine gcS1_dP hCF hwm hl.1 (m_sizeOf l z H0 x hx0.num ) (lw_S q2123 q2124 q65 q2125) yd_X1_sizeOf ⟨Nat.le_of_ble_eq_true rfl, Nat.le_of_ble_eq_true rfl⟩ ⟨Nat.le_of_ble_eq_true rfl, Nat.le_of_ble_eq_true rfl⟩ (Nat.le_of_ble_eq_true rfl) dX1_areWithin_1 (fun r_1 hp => ?_)
  subst hp
  refine lv_dstore hx hb dX1_areWithin_4 hl (by decide) rfl (fun ls hl => ?_)
  have hl : lv_has ls 8 [(4, .double (dA x)), (0, .double x), (2, .double y)] := hl
  refine lv_dload_n hx hb dX1_areWithin_6 rfl (lv_at hl 2 rfl) ?_
  refine gcS1_dP hCF hwm hl.1 (m_sizeOf l z H0 y hy0.num ) (lw_S q2123 q2124 q65 q2125) yd_X1_sizeOf ⟨Nat.le_of_ble_eq_true rfl, Nat.le_of_ble_eq_true rfl⟩ ⟨Nat.le_of_ble_eq_true rfl, Nat.le_of_ble_eq_true rfl⟩ (Nat.le_of_ble_eq_true rfl) dX1_areWithin_7 (fun r_2 hp => ?_)
  subst hp
  refine lv_dstore hx hb dX1_areWithin_10 hl (by decide) rfl (fun ls hl => ?_)
  have hl : lv_has ls 8 [(6, .double (dA y)), (4, .double (dA x)), (0, .double x), (2, .double y)] := hl
  refine lv_dload_n hx hb dX1_areWithin_12 rfl (lv_at hl 2 rfl) ?_
  refine gcS1_iP hCF hwm hl.1 (m_isSigned l z H0 x hx0.num ) (lw_S q193 q194 q65 q195) yd_X1_isSigned ⟨Nat.le_of_ble_eq_true rfl, Nat.le_of_ble_eq_true rfl⟩ ⟨Nat.le_of_ble_eq_true rfl, Nat.le_of_ble_eq_true rfl⟩ (Nat.le_of_ble_eq_true rfl) dX1_areWithin_13 (fun r_3 hp => ?_)
  subst hp
  refine lv_dload_n hx hb dX1_areWithin_16 rfl (lv_at hl 3 rfl) ?_
  refine gcS1_iP hCF hwm hl.1 (m_isSigned l z H0 y hy0.num ) (lw_S q193 q194 q65 q195) yd_X1_isSigned ⟨Nat.le_of_ble_eq_true rfl, Nat.le_of_ble_eq_true rfl⟩ ⟨Nat.le_of_ble_eq_true rfl, Nat.le_of_ble_eq_true rfl⟩ (Nat.le_of_ble_eq_true rfl) dX1_areWithin_17 (fun r_4 hp => ?_)
  subst hp
  refine lv_icmp_ne (tgt := 51) hx hb dX1_areWithin_20 (by decide) (fun c_20 => ?_) (fun c_20 => ?_)
  · skip
    refine lv_iconst (v := 0) hx hb dX1_areWithin_51 (by decide) ?_
    refine g_zretP hx hb hr hlocks (rfl) ?_ dX1_areWithin_52
    have k1 : dK (dScb (dA x) 1) = dP (dScb (dA x) 1) := by rw [dK_eq, dScb_S, dA_S]; simp
    have k2 : dK (dScb (dA y) 1) = dP (dScb (dA y) 1) := by rw [dK_eq, dScb_S, dA_S]; simp
    simp only [cK_gt, dA_K, k1, k2] at *
    unfold wth
    have hb : ∀ a b : Bool, gb a = gb b ↔ a = b := by intro a b; cases a <;> cases b <;> simp [gb]
    simp only [hb] at c_20
    simp_all [gb]
    try omega
  · skip
    refine lv_dload hx hb dX1_areWithin_23 (lv_at hl 1 rfl) ?_
    refine lv_dload hx hb dX1_areWithin_25 (lv_at hl 0 rfl) ?_
    refine lv_iconst (v := 1) hx hb dX1_areWithin_27 (by decide) ?_
    refine g_topi (v := (iI 1)) (rfl) ?_
    refine gcS2_dP hCF hwm hl.1 (m_scalb l z H0 (dA y) 1 k (dA_fin hy0) (by decide) (by decide) hk ) (lw_S q1460 q1461 q72 q1462) yd_J12_scalb ⟨Nat.le_of_ble_eq_true rfl, Nat.le_of_ble_eq_true rfl⟩ ⟨Nat.le_of_ble_eq_true rfl, Nat.le_of_ble_eq_true rfl⟩ (Nat.le_of_ble_eq_true rfl) dX1_areWithin_28 (fun r_5 hp => ?_)
    subst hp
    refine lv_dcmp hx hb dX1_areWithin_31 ?_
    refine g_topi (v := (cK (dA x) (dScb (dA y) 1))) (cK_of (dA_num hx0.num) (dScb_num _ _)) ?_
    refine lv_if_gt (tgt := 51) hx hb dX1_areWithin_32 (by decide) (fun c_32 => ?_) (fun c_32 => ?_)
    · skip
      refine lv_iconst (v := 0) hx hb dX1_areWithin_51 (by decide) ?_
      refine g_zretP hx hb hr hlocks (rfl) ?_ dX1_areWithin_52
      have k1 : dK (dScb (dA x) 1) = dP (dScb (dA x) 1) := by rw [dK_eq, dScb_S, dA_S]; simp
      have k2 : dK (dScb (dA y) 1) = dP (dScb (dA y) 1) := by rw [dK_eq, dScb_S, dA_S]; simp
      simp only [cK_gt, dA_K, k1, k2] at *
      unfold wth
      have hb : ∀ a b : Bool, gb a = gb b ↔ a = b := by intro a b; cases a <;> cases b <;> simp [gb]
      simp only [hb] at c_20
      simp_all [gb]
      try omega
    · skip
      refine lv_dload hx hb dX1_areWithin_35 (lv_at hl 0 rfl) ?_
      refine lv_dload hx hb dX1_areWithin_37 (lv_at hl 1 rfl) ?_
      refine lv_iconst (v := 1) hx hb dX1_areWithin_39 (by decide) ?_
      refine g_topi (v := (iI 1)) (rfl) ?_
      refine gcS2_dP hCF hwm hl.1 (m_scalb l z H0 (dA x) 1 k (dA_fin hx0) (by decide) (by decide) hk ) (lw_S q1460 q1461 q72 q1462) yd_J12_scalb ⟨Nat.le_of_ble_eq_true rfl, Nat.le_of_ble_eq_true rfl⟩ ⟨Nat.le_of_ble_eq_true rfl, Nat.le_of_ble_eq_true rfl⟩ (Nat.le_of_ble_eq_true rfl) dX1_areWithin_40 (fun r_6 hp => ?_)
      subst hp
      refine lv_dcmp hx hb dX1_areWithin_43 ?_
      refine g_topi (v := (cK (dA y) (dScb (dA x) 1))) (cK_of (dA_num hy0.num) (dScb_num _ _)) ?_
      refine lv_if_gt (tgt := 51) hx hb dX1_areWithin_44 (by decide) (fun c_44 => ?_) (fun c_44 => ?_)
      · skip
        refine lv_iconst (v := 0) hx hb dX1_areWithin_51 (by decide) ?_
        refine g_zretP hx hb hr hlocks (rfl) ?_ dX1_areWithin_52
        have k1 : dK (dScb (dA x) 1) = dP (dScb (dA x) 1) := by rw [dK_eq, dScb_S, dA_S]; simp
        have k2 : dK (dScb (dA y) 1) = dP (dScb (dA y) 1) := by rw [dK_eq, dScb_S, dA_S]; simp
        simp only [cK_gt, dA_K, k1, k2] at *
        unfold wth
        have hb : ∀ a b : Bool, gb a = gb b ↔ a = b := by intro a b; cases a <;> cases b <;> simp [gb]
        simp only [hb] at c_20
        simp_all [gb]
        try omega
      · skip
        refine lv_iconst (v := 1) hx hb dX1_areWithin_47 (by decide) ?_
        refine lv_goto (tgt := 52) hx hb dX1_areWithin_48 (by decide) ?_
        refine g_zretP hx hb hr hlocks (rfl) ?_ dX1_areWithin_52
        have k1 : dK (dScb (dA x) 1) = dP (dScb (dA x) 1) := by rw [dK_eq, dScb_S, dA_S]; simp
        have k2 : dK (dScb (dA y) 1) = dP (dScb (dA y) 1) := by rw [dK_eq, dScb_S, dA_S]; simp
        simp only [cK_gt, dA_K, k1, k2] at *
        unfold wth
        have hb : ∀ a b : Bool, gb a = gb b ↔ a = b := by intro a b; cases a <;> cases b <;> simp [gb]
        simp only [hb] at c_20
        simp_all [gb]
        try omega
