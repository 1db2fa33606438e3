/-! ## walks (written by tools) -/
set_option maxRecDepth 100000
def dkwX1_sizeOf_0 : List UInt8 := [38, 184, 0, 54, 184, 0, 57, 175]
abbrev dktX1_sizeOf_0 : List UInt8 := dkwX1_sizeOf_0 ++ []
theorem dksX1_sizeOf_0 : cX1_sizeOf.data.toList.drop 0 = dktX1_sizeOf_0 := by decide +kernel
theorem dX1_sizeOf_0 : decode cX1_sizeOf 0 = .ok (.dload_n 0, 1) := dk_38 (dk_at dksX1_sizeOf_0 0 rfl rfl)
theorem dX1_sizeOf_1 : decode cX1_sizeOf 1 = .ok (.invokestatic 54, 3) := dk_184 0 54 (dk_at dksX1_sizeOf_0 1 rfl rfl)
theorem dX1_sizeOf_4 : decode cX1_sizeOf 4 = .ok (.invokestatic 57, 3) := dk_184 0 57 (dk_at dksX1_sizeOf_0 4 rfl rfl)
theorem dX1_sizeOf_7 : decode cX1_sizeOf 7 = .ok (.dreturn, 1) := dk_175 (dk_at dksX1_sizeOf_0 7 rfl rfl)
def dkwX1_placeOf_0 : List UInt8 := [38, 184, 0, 61, 153, 0, 11, 38, 184, 0, 54, 117, 167, 0, 7, 38, 184, 0, 54, 173]
abbrev dktX1_placeOf_0 : List UInt8 := dkwX1_placeOf_0 ++ []
theorem dksX1_placeOf_0 : cX1_placeOf.data.toList.drop 0 = dktX1_placeOf_0 := by decide +kernel
theorem dX1_placeOf_0 : decode cX1_placeOf 0 = .ok (.dload_n 0, 1) := dk_38 (dk_at dksX1_placeOf_0 0 rfl rfl)
theorem dX1_placeOf_1 : decode cX1_placeOf 1 = .ok (.invokestatic 61, 3) := dk_184 0 61 (dk_at dksX1_placeOf_0 1 rfl rfl)
theorem dX1_placeOf_4 : decode cX1_placeOf 4 = .ok (.ifCond .eq 11, 3) := dk_153 0 11 (dk_at dksX1_placeOf_0 4 rfl rfl)
theorem dX1_placeOf_7 : decode cX1_placeOf 7 = .ok (.dload_n 0, 1) := dk_38 (dk_at dksX1_placeOf_0 7 rfl rfl)
theorem dX1_placeOf_8 : decode cX1_placeOf 8 = .ok (.invokestatic 54, 3) := dk_184 0 54 (dk_at dksX1_placeOf_0 8 rfl rfl)
theorem dX1_placeOf_11 : decode cX1_placeOf 11 = .ok (.lneg, 1) := dk_117 (dk_at dksX1_placeOf_0 11 rfl rfl)
theorem dX1_placeOf_12 : decode cX1_placeOf 12 = .ok (.goto 7, 3) := dk_167 0 7 (dk_at dksX1_placeOf_0 12 rfl rfl)
theorem dX1_placeOf_15 : decode cX1_placeOf 15 = .ok (.dload_n 0, 1) := dk_38 (dk_at dksX1_placeOf_0 15 rfl rfl)
theorem dX1_placeOf_16 : decode cX1_placeOf 16 = .ok (.invokestatic 54, 3) := dk_184 0 54 (dk_at dksX1_placeOf_0 16 rfl rfl)
theorem dX1_placeOf_19 : decode cX1_placeOf 19 = .ok (.lreturn, 1) := dk_173 (dk_at dksX1_placeOf_0 19 rfl rfl)
def dkwX1_numberAt_0 : List UInt8 := [30, 9, 148, 156, 0, 12, 30, 117, 184, 0, 57, 119, 167, 0, 7, 30, 184, 0, 57, 175]
abbrev dktX1_numberAt_0 : List UInt8 := dkwX1_numberAt_0 ++ []
theorem dksX1_numberAt_0 : cX1_numberAt.data.toList.drop 0 = dktX1_numberAt_0 := by decide +kernel
theorem dX1_numberAt_0 : decode cX1_numberAt 0 = .ok (.lload_n 0, 1) := dk_30 (dk_at dksX1_numberAt_0 0 rfl rfl)
theorem dX1_numberAt_1 : decode cX1_numberAt 1 = .ok (.lconst 0, 1) := dk_9 (dk_at dksX1_numberAt_0 1 rfl rfl)
theorem dX1_numberAt_2 : decode cX1_numberAt 2 = .ok (.lcmp, 1) := dk_148 (dk_at dksX1_numberAt_0 2 rfl rfl)
theorem dX1_numberAt_3 : decode cX1_numberAt 3 = .ok (.ifCond .ge 12, 3) := dk_156 0 12 (dk_at dksX1_numberAt_0 3 rfl rfl)
theorem dX1_numberAt_6 : decode cX1_numberAt 6 = .ok (.lload_n 0, 1) := dk_30 (dk_at dksX1_numberAt_0 6 rfl rfl)
theorem dX1_numberAt_7 : decode cX1_numberAt 7 = .ok (.lneg, 1) := dk_117 (dk_at dksX1_numberAt_0 7 rfl rfl)
theorem dX1_numberAt_8 : decode cX1_numberAt 8 = .ok (.invokestatic 57, 3) := dk_184 0 57 (dk_at dksX1_numberAt_0 8 rfl rfl)
theorem dX1_numberAt_11 : decode cX1_numberAt 11 = .ok (.dneg, 1) := dk_119 (dk_at dksX1_numberAt_0 11 rfl rfl)
theorem dX1_numberAt_12 : decode cX1_numberAt 12 = .ok (.goto 7, 3) := dk_167 0 7 (dk_at dksX1_numberAt_0 12 rfl rfl)
theorem dX1_numberAt_15 : decode cX1_numberAt 15 = .ok (.lload_n 0, 1) := dk_30 (dk_at dksX1_numberAt_0 15 rfl rfl)
theorem dX1_numberAt_16 : decode cX1_numberAt 16 = .ok (.invokestatic 57, 3) := dk_184 0 57 (dk_at dksX1_numberAt_0 16 rfl rfl)
theorem dX1_numberAt_19 : decode cX1_numberAt 19 = .ok (.dreturn, 1) := dk_175 (dk_at dksX1_numberAt_0 19 rfl rfl)
def dkwX1_areSame_0 : List UInt8 := [38, 184, 0, 49, 40, 184, 0, 49, 148, 154, 0, 7, 4, 167, 0, 4, 3, 172]
abbrev dktX1_areSame_0 : List UInt8 := dkwX1_areSame_0 ++ []
theorem dksX1_areSame_0 : cX1_areSame.data.toList.drop 0 = dktX1_areSame_0 := by decide +kernel
theorem dX1_areSame_0 : decode cX1_areSame 0 = .ok (.dload_n 0, 1) := dk_38 (dk_at dksX1_areSame_0 0 rfl rfl)
theorem dX1_areSame_1 : decode cX1_areSame 1 = .ok (.invokestatic 49, 3) := dk_184 0 49 (dk_at dksX1_areSame_0 1 rfl rfl)
theorem dX1_areSame_4 : decode cX1_areSame 4 = .ok (.dload_n 2, 1) := dk_40 (dk_at dksX1_areSame_0 4 rfl rfl)
theorem dX1_areSame_5 : decode cX1_areSame 5 = .ok (.invokestatic 49, 3) := dk_184 0 49 (dk_at dksX1_areSame_0 5 rfl rfl)
theorem dX1_areSame_8 : decode cX1_areSame 8 = .ok (.lcmp, 1) := dk_148 (dk_at dksX1_areSame_0 8 rfl rfl)
theorem dX1_areSame_9 : decode cX1_areSame 9 = .ok (.ifCond .ne 7, 3) := dk_154 0 7 (dk_at dksX1_areSame_0 9 rfl rfl)
theorem dX1_areSame_12 : decode cX1_areSame 12 = .ok (.iconst 1, 1) := dk_4 (dk_at dksX1_areSame_0 12 rfl rfl)
theorem dX1_areSame_13 : decode cX1_areSame 13 = .ok (.goto 4, 3) := dk_167 0 4 (dk_at dksX1_areSame_0 13 rfl rfl)
theorem dX1_areSame_16 : decode cX1_areSame 16 = .ok (.iconst 0, 1) := dk_3 (dk_at dksX1_areSame_0 16 rfl rfl)
theorem dX1_areSame_17 : decode cX1_areSame 17 = .ok (.ireturn, 1) := dk_172 (dk_at dksX1_areSame_0 17 rfl rfl)
def dkwX1_isIn_0 : List UInt8 := [26, 27, 161, 0, 12, 26, 28, 163, 0, 7, 4, 167, 0, 4, 3, 172]
abbrev dktX1_isIn_0 : List UInt8 := dkwX1_isIn_0 ++ []
theorem dksX1_isIn_0 : cX1_isIn.data.toList.drop 0 = dktX1_isIn_0 := by decide +kernel
theorem dX1_isIn_0 : decode cX1_isIn 0 = .ok (.iload_n 0, 1) := dk_26 (dk_at dksX1_isIn_0 0 rfl rfl)
theorem dX1_isIn_1 : decode cX1_isIn 1 = .ok (.iload_n 1, 1) := dk_27 (dk_at dksX1_isIn_0 1 rfl rfl)
theorem dX1_isIn_2 : decode cX1_isIn 2 = .ok (.if_icmp .lt 12, 3) := dk_161 0 12 (dk_at dksX1_isIn_0 2 rfl rfl)
theorem dX1_isIn_5 : decode cX1_isIn 5 = .ok (.iload_n 0, 1) := dk_26 (dk_at dksX1_isIn_0 5 rfl rfl)
theorem dX1_isIn_6 : decode cX1_isIn 6 = .ok (.iload_n 2, 1) := dk_28 (dk_at dksX1_isIn_0 6 rfl rfl)
theorem dX1_isIn_7 : decode cX1_isIn 7 = .ok (.if_icmp .gt 7, 3) := dk_163 0 7 (dk_at dksX1_isIn_0 7 rfl rfl)
theorem dX1_isIn_10 : decode cX1_isIn 10 = .ok (.iconst 1, 1) := dk_4 (dk_at dksX1_isIn_0 10 rfl rfl)
theorem dX1_isIn_11 : decode cX1_isIn 11 = .ok (.goto 4, 3) := dk_167 0 4 (dk_at dksX1_isIn_0 11 rfl rfl)
theorem dX1_isIn_14 : decode cX1_isIn 14 = .ok (.iconst 0, 1) := dk_3 (dk_at dksX1_isIn_0 14 rfl rfl)
theorem dX1_isIn_15 : decode cX1_isIn 15 = .ok (.ireturn, 1) := dk_172 (dk_at dksX1_isIn_0 15 rfl rfl)
def dkwX1_mustBeCell_0 : List UInt8 := [26, 3, 16, 7, 184, 0, 29, 154, 0, 11, 187, 0, 33, 89, 183, 0, 35, 191, 177]
abbrev dktX1_mustBeCell_0 : List UInt8 := dkwX1_mustBeCell_0 ++ []
theorem dksX1_mustBeCell_0 : cX1_mustBeCell.data.toList.drop 0 = dktX1_mustBeCell_0 := by decide +kernel
theorem dX1_mustBeCell_0 : decode cX1_mustBeCell 0 = .ok (.iload_n 0, 1) := dk_26 (dk_at dksX1_mustBeCell_0 0 rfl rfl)
theorem dX1_mustBeCell_1 : decode cX1_mustBeCell 1 = .ok (.iconst 0, 1) := dk_3 (dk_at dksX1_mustBeCell_0 1 rfl rfl)
theorem dX1_mustBeCell_2 : decode cX1_mustBeCell 2 = .ok (.bipush 7, 2) := dk_16 7 (dk_at dksX1_mustBeCell_0 2 rfl rfl)
theorem dX1_mustBeCell_4 : decode cX1_mustBeCell 4 = .ok (.invokestatic 29, 3) := dk_184 0 29 (dk_at dksX1_mustBeCell_0 4 rfl rfl)
theorem dX1_mustBeCell_7 : decode cX1_mustBeCell 7 = .ok (.ifCond .ne 11, 3) := dk_154 0 11 (dk_at dksX1_mustBeCell_0 7 rfl rfl)
theorem dX1_mustBeCell_10 : decode cX1_mustBeCell 10 = .ok (.new 33, 3) := dk_187 0 33 (dk_at dksX1_mustBeCell_0 10 rfl rfl)
theorem dX1_mustBeCell_13 : decode cX1_mustBeCell 13 = .ok (.dup, 1) := dk_89 (dk_at dksX1_mustBeCell_0 13 rfl rfl)
theorem dX1_mustBeCell_14 : decode cX1_mustBeCell 14 = .ok (.invokespecial 35, 3) := dk_183 0 35 (dk_at dksX1_mustBeCell_0 14 rfl rfl)
theorem dX1_mustBeCell_17 : decode cX1_mustBeCell 17 = .ok (.athrow, 1) := dk_191 (dk_at dksX1_mustBeCell_0 17 rfl rfl)
theorem dX1_mustBeCell_18 : decode cX1_mustBeCell 18 = .ok (.return_, 1) := dk_177 (dk_at dksX1_mustBeCell_0 18 rfl rfl)
def dkwX1_mustFit_0 : List UInt8 := [26, 154, 0, 11, 187, 0, 36, 89, 183, 0, 38, 191, 177]
abbrev dktX1_mustFit_0 : List UInt8 := dkwX1_mustFit_0 ++ []
theorem dksX1_mustFit_0 : cX1_mustFit.data.toList.drop 0 = dktX1_mustFit_0 := by decide +kernel
theorem dX1_mustFit_0 : decode cX1_mustFit 0 = .ok (.iload_n 0, 1) := dk_26 (dk_at dksX1_mustFit_0 0 rfl rfl)
theorem dX1_mustFit_1 : decode cX1_mustFit 1 = .ok (.ifCond .ne 11, 3) := dk_154 0 11 (dk_at dksX1_mustFit_0 1 rfl rfl)
theorem dX1_mustFit_4 : decode cX1_mustFit 4 = .ok (.new 36, 3) := dk_187 0 36 (dk_at dksX1_mustFit_0 4 rfl rfl)
theorem dX1_mustFit_7 : decode cX1_mustFit 7 = .ok (.dup, 1) := dk_89 (dk_at dksX1_mustFit_0 7 rfl rfl)
theorem dX1_mustFit_8 : decode cX1_mustFit 8 = .ok (.invokespecial 38, 3) := dk_183 0 38 (dk_at dksX1_mustFit_0 8 rfl rfl)
theorem dX1_mustFit_11 : decode cX1_mustFit 11 = .ok (.athrow, 1) := dk_191 (dk_at dksX1_mustFit_0 11 rfl rfl)
theorem dX1_mustFit_12 : decode cX1_mustFit 12 = .ok (.return_, 1) := dk_177 (dk_at dksX1_mustFit_0 12 rfl rfl)
def dkwX1_bit_0 : List UInt8 := [26, 153, 0, 7, 4, 167, 0, 4, 3, 172]
abbrev dktX1_bit_0 : List UInt8 := dkwX1_bit_0 ++ []
theorem dksX1_bit_0 : cX1_bit.data.toList.drop 0 = dktX1_bit_0 := by decide +kernel
theorem dX1_bit_0 : decode cX1_bit 0 = .ok (.iload_n 0, 1) := dk_26 (dk_at dksX1_bit_0 0 rfl rfl)
theorem dX1_bit_1 : decode cX1_bit 1 = .ok (.ifCond .eq 7, 3) := dk_153 0 7 (dk_at dksX1_bit_0 1 rfl rfl)
theorem dX1_bit_4 : decode cX1_bit 4 = .ok (.iconst 1, 1) := dk_4 (dk_at dksX1_bit_0 4 rfl rfl)
theorem dX1_bit_5 : decode cX1_bit 5 = .ok (.goto 4, 3) := dk_167 0 4 (dk_at dksX1_bit_0 5 rfl rfl)
theorem dX1_bit_8 : decode cX1_bit 8 = .ok (.iconst 0, 1) := dk_3 (dk_at dksX1_bit_0 8 rfl rfl)
theorem dX1_bit_9 : decode cX1_bit 9 = .ok (.ireturn, 1) := dk_172 (dk_at dksX1_bit_0 9 rfl rfl)
def dkwX1_knotPoint_0 : List UInt8 := [178, 0, 64, 26, 46, 133, 16, 52, 121, 178, 0, 68, 26, 47, 129, 173]
abbrev dktX1_knotPoint_0 : List UInt8 := dkwX1_knotPoint_0 ++ []
theorem dksX1_knotPoint_0 : cX1_knotPoint.data.toList.drop 0 = dktX1_knotPoint_0 := by decide +kernel
theorem dX1_knotPoint_0 : decode cX1_knotPoint 0 = .ok (.getstatic 64, 3) := dk_178 0 64 (dk_at dksX1_knotPoint_0 0 rfl rfl)
theorem dX1_knotPoint_3 : decode cX1_knotPoint 3 = .ok (.iload_n 0, 1) := dk_26 (dk_at dksX1_knotPoint_0 3 rfl rfl)
theorem dX1_knotPoint_4 : decode cX1_knotPoint 4 = .ok (.iaload, 1) := dk_46 (dk_at dksX1_knotPoint_0 4 rfl rfl)
theorem dX1_knotPoint_5 : decode cX1_knotPoint 5 = .ok (.i2l, 1) := dk_133 (dk_at dksX1_knotPoint_0 5 rfl rfl)
theorem dX1_knotPoint_6 : decode cX1_knotPoint 6 = .ok (.bipush 52, 2) := dk_16 52 (dk_at dksX1_knotPoint_0 6 rfl rfl)
theorem dX1_knotPoint_8 : decode cX1_knotPoint 8 = .ok (.lshl, 1) := dk_121 (dk_at dksX1_knotPoint_0 8 rfl rfl)
theorem dX1_knotPoint_9 : decode cX1_knotPoint 9 = .ok (.getstatic 68, 3) := dk_178 0 68 (dk_at dksX1_knotPoint_0 9 rfl rfl)
theorem dX1_knotPoint_12 : decode cX1_knotPoint 12 = .ok (.iload_n 0, 1) := dk_26 (dk_at dksX1_knotPoint_0 12 rfl rfl)
theorem dX1_knotPoint_13 : decode cX1_knotPoint 13 = .ok (.laload, 1) := dk_47 (dk_at dksX1_knotPoint_0 13 rfl rfl)
theorem dX1_knotPoint_14 : decode cX1_knotPoint 14 = .ok (.lor, 1) := dk_129 (dk_at dksX1_knotPoint_0 14 rfl rfl)
theorem dX1_knotPoint_15 : decode cX1_knotPoint 15 = .ok (.lreturn, 1) := dk_173 (dk_at dksX1_knotPoint_0 15 rfl rfl)
def dkwX1_windowOf_2 : List UInt8 := [167, 255, 222, 2, 172]
abbrev dktX1_windowOf_2 : List UInt8 := dkwX1_windowOf_2 ++ []
def dkwX1_windowOf_1 : List UInt8 := [66, 33, 20, 0, 78, 148, 155, 0, 13, 33, 20, 0, 80, 148, 157, 0, 5, 28, 172, 132, 2, 1]
abbrev dktX1_windowOf_1 : List UInt8 := dkwX1_windowOf_1 ++ dktX1_windowOf_2
def dkwX1_windowOf_0 : List UInt8 := [30, 20, 0, 72, 148, 158, 0, 5, 2, 172, 3, 61, 28, 16, 32, 162, 0, 34, 30, 28, 184, 0, 74, 101]
abbrev dktX1_windowOf_0 : List UInt8 := dkwX1_windowOf_0 ++ dktX1_windowOf_1
theorem dksX1_windowOf_0 : cX1_windowOf.data.toList.drop 0 = dktX1_windowOf_0 := by decide +kernel
theorem dksX1_windowOf_1 : cX1_windowOf.data.toList.drop 24 = dktX1_windowOf_1 := dk_seg dksX1_windowOf_0 24 rfl rfl
theorem dksX1_windowOf_2 : cX1_windowOf.data.toList.drop 46 = dktX1_windowOf_2 := dk_seg dksX1_windowOf_1 22 rfl rfl
theorem dX1_windowOf_0 : decode cX1_windowOf 0 = .ok (.lload_n 0, 1) := dk_30 (dk_at dksX1_windowOf_0 0 rfl rfl)
theorem dX1_windowOf_1 : decode cX1_windowOf 1 = .ok (.ldc2_w 72, 3) := dk_20 0 72 (dk_at dksX1_windowOf_0 1 rfl rfl)
theorem dX1_windowOf_4 : decode cX1_windowOf 4 = .ok (.lcmp, 1) := dk_148 (dk_at dksX1_windowOf_0 4 rfl rfl)
theorem dX1_windowOf_5 : decode cX1_windowOf 5 = .ok (.ifCond .le 5, 3) := dk_158 0 5 (dk_at dksX1_windowOf_0 5 rfl rfl)
theorem dX1_windowOf_8 : decode cX1_windowOf 8 = .ok (.iconst (-1), 1) := dk_2 (dk_at dksX1_windowOf_0 8 rfl rfl)
theorem dX1_windowOf_9 : decode cX1_windowOf 9 = .ok (.ireturn, 1) := dk_172 (dk_at dksX1_windowOf_0 9 rfl rfl)
theorem dX1_windowOf_10 : decode cX1_windowOf 10 = .ok (.iconst 0, 1) := dk_3 (dk_at dksX1_windowOf_0 10 rfl rfl)
theorem dX1_windowOf_11 : decode cX1_windowOf 11 = .ok (.istore_n 2, 1) := dk_61 (dk_at dksX1_windowOf_0 11 rfl rfl)
theorem dX1_windowOf_12 : decode cX1_windowOf 12 = .ok (.iload_n 2, 1) := dk_28 (dk_at dksX1_windowOf_0 12 rfl rfl)
theorem dX1_windowOf_13 : decode cX1_windowOf 13 = .ok (.bipush 32, 2) := dk_16 32 (dk_at dksX1_windowOf_0 13 rfl rfl)
theorem dX1_windowOf_15 : decode cX1_windowOf 15 = .ok (.if_icmp .ge 34, 3) := dk_162 0 34 (dk_at dksX1_windowOf_0 15 rfl rfl)
theorem dX1_windowOf_18 : decode cX1_windowOf 18 = .ok (.lload_n 0, 1) := dk_30 (dk_at dksX1_windowOf_0 18 rfl rfl)
theorem dX1_windowOf_19 : decode cX1_windowOf 19 = .ok (.iload_n 2, 1) := dk_28 (dk_at dksX1_windowOf_0 19 rfl rfl)
theorem dX1_windowOf_20 : decode cX1_windowOf 20 = .ok (.invokestatic 74, 3) := dk_184 0 74 (dk_at dksX1_windowOf_0 20 rfl rfl)
theorem dX1_windowOf_23 : decode cX1_windowOf 23 = .ok (.lsub, 1) := dk_101 (dk_at dksX1_windowOf_0 23 rfl rfl)
theorem dX1_windowOf_24 : decode cX1_windowOf 24 = .ok (.lstore_n 3, 1) := dk_66 (dk_at dksX1_windowOf_1 0 rfl rfl)
theorem dX1_windowOf_25 : decode cX1_windowOf 25 = .ok (.lload_n 3, 1) := dk_33 (dk_at dksX1_windowOf_1 1 rfl rfl)
theorem dX1_windowOf_26 : decode cX1_windowOf 26 = .ok (.ldc2_w 78, 3) := dk_20 0 78 (dk_at dksX1_windowOf_1 2 rfl rfl)
theorem dX1_windowOf_29 : decode cX1_windowOf 29 = .ok (.lcmp, 1) := dk_148 (dk_at dksX1_windowOf_1 5 rfl rfl)
theorem dX1_windowOf_30 : decode cX1_windowOf 30 = .ok (.ifCond .lt 13, 3) := dk_155 0 13 (dk_at dksX1_windowOf_1 6 rfl rfl)
theorem dX1_windowOf_33 : decode cX1_windowOf 33 = .ok (.lload_n 3, 1) := dk_33 (dk_at dksX1_windowOf_1 9 rfl rfl)
theorem dX1_windowOf_34 : decode cX1_windowOf 34 = .ok (.ldc2_w 80, 3) := dk_20 0 80 (dk_at dksX1_windowOf_1 10 rfl rfl)
theorem dX1_windowOf_37 : decode cX1_windowOf 37 = .ok (.lcmp, 1) := dk_148 (dk_at dksX1_windowOf_1 13 rfl rfl)
theorem dX1_windowOf_38 : decode cX1_windowOf 38 = .ok (.ifCond .gt 5, 3) := dk_157 0 5 (dk_at dksX1_windowOf_1 14 rfl rfl)
theorem dX1_windowOf_41 : decode cX1_windowOf 41 = .ok (.iload_n 2, 1) := dk_28 (dk_at dksX1_windowOf_1 17 rfl rfl)
theorem dX1_windowOf_42 : decode cX1_windowOf 42 = .ok (.ireturn, 1) := dk_172 (dk_at dksX1_windowOf_1 18 rfl rfl)
theorem dX1_windowOf_43 : decode cX1_windowOf 43 = .ok (.iinc 2 1, 3) := dk_132 2 1 (dk_at dksX1_windowOf_1 19 rfl rfl)
theorem dX1_windowOf_46 : decode cX1_windowOf 46 = .ok (.goto (-34), 3) := dk_167 255 222 (dk_at dksX1_windowOf_2 0 rfl rfl)
theorem dX1_windowOf_49 : decode cX1_windowOf 49 = .ok (.iconst (-1), 1) := dk_2 (dk_at dksX1_windowOf_2 3 rfl rfl)
theorem dX1_windowOf_50 : decode cX1_windowOf 50 = .ok (.ireturn, 1) := dk_172 (dk_at dksX1_windowOf_2 4 rfl rfl)
theorem yd_X1_isIn : yX1_isIn.cls ≠ "java/lang/invoke/MethodHandle" ∧ yX1_isIn.cls ≠ "java/lang/invoke/VarHandle" ∧ (parseMethodDescriptor yX1_isIn.desc).map (fun d => d.parameters.length) = some 3 := by decide +kernel
theorem yd_X1_isSigned : yX1_isSigned.cls ≠ "java/lang/invoke/MethodHandle" ∧ yX1_isSigned.cls ≠ "java/lang/invoke/VarHandle" ∧ (parseMethodDescriptor yX1_isSigned.desc).map (fun d => d.parameters.length) = some 1 := by decide +kernel
theorem yd_X1_knotPoint : yX1_knotPoint.cls ≠ "java/lang/invoke/MethodHandle" ∧ yX1_knotPoint.cls ≠ "java/lang/invoke/VarHandle" ∧ (parseMethodDescriptor yX1_knotPoint.desc).map (fun d => d.parameters.length) = some 1 := by decide +kernel
/-! ### the knots -/
def kEl : List Nat := [0, 0, 1, 2, 52, 53, 54, 512, 969, 970, 971, 996, 1019, 1021, 1022, 1022, 1023, 1023, 1024, 1024, 1025, 1026, 1049, 1074, 1075, 1076, 1076, 1096, 1500, 2045, 2046, 2046]
def kFl : List Nat := [0, 2251799813685248, 0, 0, 2251799813685248, 0, 0, 1501199875790165, 0, 0, 0, 2702159776422298, 2702159776422298, 1501199875790165, 0, 3002399751580330, 0, 2251799813685248, 0, 2570638124657944, 0, 1125899906842624, 2251799813685249, 0, 0, 0, 1501199875790165, 123456789012345, 2702159776422298, 0, 0, 4503599627370495]
def kE (i : Nat) : Int32 := nI (kEl.getD i 0)
def kF (i : Nat) : Int64 := lN (kFl.getD i 0)
/-- a knot's point -/
def kPt (i : Nat) : Nat := kEl.getD i 0 * 4503599627370496 + kFl.getD i 0
/-- what the numbers' methods read of statics; k: the arrays' addresses -/
def sN (z : State) (k : Nat → Nat) (A : Nat → Prop) (H : Heap) : Prop :=
  (gZ z "Nearplaces" "EXPONENTS" "[I" (.ref (k 0)) A H ∧ gZ z "Nearplaces" "FRACTIONS" "[J" (.ref (k 1)) A H) ∧ (gI z false .int H (k 0) 32 kE ∧ gL z false H (k 1) 32 kF) ∧ (¬ A (k 0) ∧ ¬ A (k 1)) ∧
  gZ z "java/lang/Math" "$assertionsDisabled" "Z" (.int 1) A H ∧ gZ z "java/lang/Math" "twoToTheDoubleScaleUp" "D" (.double 6913025428013711360) A H ∧ gZ z "java/lang/Math" "twoToTheDoubleScaleDown" "D" (.double 2301339409586323456) A H
theorem sN.call {z : State} {k : Nat → Nat} {A A1 : Nat → Prop} {H0 H : Heap} {locs : List Loc} (h : sN z k A H0) (hS : va_S A H0 H locs) (hA : ∀ q, A1 q → A q) : sN z k A1 H :=
  ⟨⟨h.1.1.call hS hA, h.1.2.call hS hA⟩, ⟨h.2.1.1.to (hS.2.1 _ h.2.1.1.lt h.2.2.1.1), h.2.1.2.to (hS.2.1 _ h.2.1.2.lt h.2.2.1.2)⟩, ⟨fun q => h.2.2.1.1 (hA _ q), fun q => h.2.2.1.2 (hA _ q)⟩, h.2.2.2.1.call hS hA, h.2.2.2.2.1.call hS hA, h.2.2.2.2.2.call hS hA⟩
theorem sN.cur {z : State} {k : Nat → Nat} {A : Nat → Prop} {H0 H : Heap} {locs : List Loc} (h : sN z k A H0) (hS : va_S A H0 H locs) : sN z k A H := h.call hS (fun _ q => q)
theorem kP_ok : ∀ i, i < 32 → (kE i).toInt64 <<< ((52 : Int32).toInt64 &&& 63) ||| kF i = lN (kPt i) ∧ kPt i < 9223372036854775808 := by decide +kernel
/-- the knot near which a point lies -/
def kNear (p i : Nat) : Prop := kPt i ≤ p + 512 ∧ p ≤ kPt i + 511
theorem u64_inj {x y : UInt64} (h : x.toInt64 = y.toInt64) : x = y := by
  have := congrArg Int64.toUInt64 h
  simpa using this
def win (p : Nat) : Option Nat := if 9218868437227405311 < p then none else (List.range 32).find? (fun i => decide (kPt i ≤ p + 512 ∧ p ≤ kPt i + 511))
def winI (p : Nat) : Int32 := match win p with
  | some i => nI i
  | none => -1
theorem win_some {p i : Nat} (h : win p = some i) : p ≤ 9218868437227405311 ∧ i < 32 ∧ kNear p i := by
  unfold win at h
  split at h
  · cases h
  · have h1 := List.find?_some h
    have h2 := List.mem_of_find?_eq_some h
    exact ⟨by omega, List.mem_range.mp h2, by unfold kNear; simpa using h1⟩
theorem win_first {p i : Nat} (hp : p ≤ 9218868437227405311) (hi : i < 32) (h : kNear p i) (hj : ∀ j, j < i → ¬ kNear p j) : win p = some i := by
  unfold win
  rw [if_neg (by omega)]
  cases h1 : (List.range 32).find? (fun i => decide (kPt i ≤ p + 512 ∧ p ≤ kPt i + 511)) with
  | none =>
    have := List.find?_eq_none.mp h1 i (List.mem_range.mpr hi)
    exact absurd h (by simpa [kNear] using this)
  | some j =>
    obtain ⟨as, bs, e, hn⟩ := List.find?_eq_some_iff_append.mp h1 |>.2
    have hjp : kNear p j := by have := List.find?_some h1; simpa [kNear] using this
    have hjr := List.mem_range.mp (List.mem_of_find?_eq_some h1)
    rcases Nat.lt_trichotomy j i with q | q | q
    · exact absurd hjp (hj j q)
    · rw [q]
    · exfalso
      have hmem : i ∈ as := by
        have hs : (List.range 32).Pairwise (· < ·) := List.pairwise_lt_range
        rw [e] at hs
        have hi2 : i ∈ as ++ j :: bs := by rw [← e]; exact List.mem_range.mpr hi
        rcases List.mem_append.mp hi2 with a | a
        · exact a
        · exfalso
          have h3 := (List.pairwise_append.mp hs).2.1
          rcases List.mem_cons.mp a with b | b
          · omega
          · have := (List.pairwise_cons.mp h3).1 i b; omega
      have := hn i hmem
      unfold kNear at h
      simp [h] at this
theorem win_none {p : Nat} (h : ∀ j, j < 32 → ¬ kNear p j) : win p = none := by
  unfold win
  split
  · rfl
  · rw [List.find?_eq_none]
    intro i hi
    have := h i (List.mem_range.mp hi)
    unfold kNear at this
    simpa using this
theorem win_top {p : Nat} (h : 9218868437227405311 < p) : win p = none := by
  unfold win; rw [if_pos h]
theorem kP_ofs {p i : Nat} (hp : p < 9223372036854775808) (hi : i < 32) : (lN p - lN (kPt i)).toInt = (p : Int) - (kPt i : Int) := by
  have h := (kP_ok i hi).2
  rw [Int64.toInt_sub, pk_lT (by omega), pk_lT (by omega)]
  exact Int.bmod_eq_of_le (by omega) (by omega)

set_option maxHeartbeats 1000000 in
theorem m_sizeOf (l : Launch) (z : State) (H0 : Heap) (x : UInt64)  (hx0 : dNum x) : Met l yX1_sizeOf (ws_ yX1_sizeOf cX1_sizeOf 2 (some .double)) { frames := 4, cells := 0, slots := 0, locals := 86 } (gPc z H0 [.double x]) (gPd H0 (fun r => r = dA x)) 0 0 gno := by
  refine g_start (by decide +kernel) (Nat.le_of_ble_eq_true rfl) ?_
  intro p e s m below meth c ls hx hb hr hlocks hml hown hname hts hwm hl
  have hown : s.vm.findClass "Nearplaces" = some m.cls := hown
  have hal : z.vm.Alike s.vm := hwm.alike
  have hCF : CallFix p m c cX1_sizeOf 2 s [.double x].toArray lw_all "Nearplaces" := ⟨hx, hb, hml, hown, hts⟩
  have hl : lv_has ls 2 [(0, .double x)] := hl
  refine lv_dload_n hx hb dX1_sizeOf_0 rfl (lv_at hl 0 rfl) ?_
  refine gcS1_lP hCF hwm hl.1 (m_pointOf l z H0 x hx0 ) (lw_S q375 q376 q65 q377) yd_X1_pointOf ⟨Nat.le_of_ble_eq_true rfl, Nat.le_of_ble_eq_true rfl⟩ ⟨Nat.le_of_ble_eq_true rfl, Nat.le_of_ble_eq_true rfl⟩ (Nat.le_of_ble_eq_true rfl) dX1_sizeOf_1 (fun r_1 hp => ?_)
  subst hp
  refine vn_l2d hx hb (hml.trans hl.1.symm) hown (hts _ q1810) (hts _ q897) (hts _ q896) (hts _ q69) (snl (Nat.lt_trans (dP_lt x) (by decide)) (by have := dP_lt x; unfold dNum at hx0; omega)) (Nat.le_of_ble_eq_true rfl) (Nat.le_of_ble_eq_true rfl) dX1_sizeOf_4 ?_
  refine g_dretP hx hb hr hlocks ?_ dX1_sizeOf_7
  exact lN_u (Nat.lt_trans (dP_lt x) (by decide))
set_option maxHeartbeats 1000000 in
theorem m_placeOf (l : Launch) (z : State) (H0 : Heap) (x : UInt64)  (hx0 : dNum x) : Met l yX1_placeOf (ws_ yX1_placeOf cX1_placeOf 2 (some .long)) { frames := 4, cells := 0, slots := 0, locals := 86 } (gPc z H0 [.double x]) (gPl H0 (fun r => r = lI (dK x))) 0 0 gno := by
  refine g_start (by decide +kernel) (Nat.le_of_ble_eq_true rfl) ?_
  intro p e s m below meth c ls hx hb hr hlocks hml hown hname hts hwm hl
  have hown : s.vm.findClass "Nearplaces" = some m.cls := hown
  have hal : z.vm.Alike s.vm := hwm.alike
  have hCF : CallFix p m c cX1_placeOf 2 s [.double x].toArray lw_all "Nearplaces" := ⟨hx, hb, hml, hown, hts⟩
  have hl : lv_has ls 2 [(0, .double x)] := hl
  refine lv_dload_n hx hb dX1_placeOf_0 rfl (lv_at hl 0 rfl) ?_
  refine gcS1_iP hCF hwm hl.1 (m_isSigned l z H0 x hx0 ) (lw_S q193 q194 q65 q195) yd_X1_isSigned ⟨Nat.le_of_ble_eq_true rfl, Nat.le_of_ble_eq_true rfl⟩ ⟨Nat.le_of_ble_eq_true rfl, Nat.le_of_ble_eq_true rfl⟩ (Nat.le_of_ble_eq_true rfl) dX1_placeOf_1 (fun r_1 hp => ?_)
  subst hp
  refine lv_if_eq (tgt := 15) hx hb dX1_placeOf_4 (by decide) (fun c_4 => ?_) (fun c_4 => ?_)
  · skip
    refine lv_dload_n hx hb dX1_placeOf_15 rfl (lv_at hl 0 rfl) ?_
    refine gcS1_lP hCF hwm hl.1 (m_pointOf l z H0 x hx0 ) (lw_S q375 q376 q65 q377) yd_X1_pointOf ⟨Nat.le_of_ble_eq_true rfl, Nat.le_of_ble_eq_true rfl⟩ ⟨Nat.le_of_ble_eq_true rfl, Nat.le_of_ble_eq_true rfl⟩ (Nat.le_of_ble_eq_true rfl) dX1_placeOf_16 (fun r_2 hp => ?_)
    subst hp
    refine g_lretP hx hb hr hlocks ?_ dX1_placeOf_19
    rw [dK_eq]
    first | (rw [show dS x = true from by cases e : dS x with | true => rfl | false => exact absurd (by rw [e]; rfl) c_4]; exact neg_lN _) | (rw [gb_0.mp c_4]; exact lN_lI _)
  · skip
    refine lv_dload_n hx hb dX1_placeOf_7 rfl (lv_at hl 0 rfl) ?_
    refine gcS1_lP hCF hwm hl.1 (m_pointOf l z H0 x hx0 ) (lw_S q375 q376 q65 q377) yd_X1_pointOf ⟨Nat.le_of_ble_eq_true rfl, Nat.le_of_ble_eq_true rfl⟩ ⟨Nat.le_of_ble_eq_true rfl, Nat.le_of_ble_eq_true rfl⟩ (Nat.le_of_ble_eq_true rfl) dX1_placeOf_8 (fun r_3 hp => ?_)
    subst hp
    refine lv_lneg hx hb dX1_placeOf_11 ?_
    refine lv_goto (tgt := 19) hx hb dX1_placeOf_12 (by decide) ?_
    refine g_lretP hx hb hr hlocks ?_ dX1_placeOf_19
    rw [dK_eq]
    first | (rw [show dS x = true from by cases e : dS x with | true => rfl | false => exact absurd (by rw [e]; rfl) c_4]; exact neg_lN _) | (rw [gb_0.mp c_4]; exact lN_lI _)
set_option maxHeartbeats 1000000 in
theorem m_numberAt (l : Launch) (z : State) (H0 : Heap)  (i : Int) (h1 : -9218868437227405312 ≤ i) (h2 : i ≤ 9218868437227405312) : Met l yX1_numberAt (ws_ yX1_numberAt cX1_numberAt 2 (some .double)) { frames := 1, cells := 0, slots := 0, locals := 23 } (gPc z H0 [.long (lI i)]) (gPd H0 (fun r => r = dOf i)) 0 0 gno := by
  refine g_start (by decide +kernel) (Nat.le_of_ble_eq_true rfl) ?_
  intro p e s m below meth c ls hx hb hr hlocks hml hown hname hts hwm hl
  have hown : s.vm.findClass "Nearplaces" = some m.cls := hown
  have hal : z.vm.Alike s.vm := hwm.alike
  have hCF : CallFix p m c cX1_numberAt 2 s [.long (lI i)].toArray lw_all "Nearplaces" := ⟨hx, hb, hml, hown, hts⟩
  have hl : lv_has ls 2 [(0, .long (lI i))] := hl
  refine lv_lload_n hx hb dX1_numberAt_0 rfl (lv_at hl 0 rfl) ?_
  refine lv_lconst (v := 0) hx hb dX1_numberAt_1 (by decide) ?_
  refine W.lcmp hx hb dX1_numberAt_2 ?_
  refine lv_if_ge (tgt := 15) hx hb dX1_numberAt_3 (by decide) (fun c_3 => ?_) (fun c_3 => ?_)
  · skip
    refine lv_lload_n hx hb dX1_numberAt_15 rfl (lv_at hl 0 rfl) ?_
    refine g_topl (v := (lN i.natAbs)) (lI_pos (by have := lc_ge.mp c_3; rw [lI_toInt (by omega) (by omega)] at this; simp at this; omega)) ?_
    refine vn_l2d hx hb (hml.trans hl.1.symm) hown (hts _ q1810) (hts _ q897) (hts _ q896) (hts _ q69) (snl (by omega) (by omega)) (Nat.le_of_ble_eq_true rfl) (Nat.le_of_ble_eq_true rfl) dX1_numberAt_16 ?_
    refine g_dretP hx hb hr hlocks ?_ dX1_numberAt_19
    rw [lN_u (by omega)]
    first | exact dOf_neg (by omega) (Int.not_le.mp (fun q => c_3 (lc_ge.mpr (by rw [lI_toInt (by omega) (by omega)]; simpa using q)))) | exact dOf_pos (by have := lc_ge.mp c_3; rw [lI_toInt (by omega) (by omega)] at this; simp at this; omega)
  · skip
    refine lv_lload_n hx hb dX1_numberAt_6 rfl (lv_at hl 0 rfl) ?_
    refine lv_lneg hx hb dX1_numberAt_7 ?_
    refine g_topl (v := (lN i.natAbs)) (by rw [neg_lI]; exact lI_neg (Int.not_le.mp (fun q => c_3 (lc_ge.mpr (by rw [lI_toInt (by omega) (by omega)]; simpa using q))))) ?_
    refine vn_l2d hx hb (hml.trans hl.1.symm) hown (hts _ q1810) (hts _ q897) (hts _ q896) (hts _ q69) (snl (by omega) (by omega)) (Nat.le_of_ble_eq_true rfl) (Nat.le_of_ble_eq_true rfl) dX1_numberAt_8 ?_
    refine lv_dneg hx hb dX1_numberAt_11 ?_
    refine lv_goto (tgt := 19) hx hb dX1_numberAt_12 (by decide) ?_
    refine g_dretP hx hb hr hlocks ?_ dX1_numberAt_19
    rw [lN_u (by omega)]
    first | exact dOf_neg (by omega) (Int.not_le.mp (fun q => c_3 (lc_ge.mpr (by rw [lI_toInt (by omega) (by omega)]; simpa using q)))) | exact dOf_pos (by have := lc_ge.mp c_3; rw [lI_toInt (by omega) (by omega)] at this; simp at this; omega)
set_option maxHeartbeats 1000000 in
theorem m_areSame (l : Launch) (z : State) (H0 : Heap) (x : UInt64) (y : UInt64)  (hx0 : dNum x) (hy0 : dNum y) : Met l yX1_areSame (ws_ yX1_areSame cX1_areSame 4 (some .boolean)) { frames := 3, cells := 0, slots := 0, locals := 65 } (gPc z H0 [.double x, .double y]) (gPi H0 (fun r => r = gb (decide (x = y)))) 0 0 gno := by
  refine g_start (by decide +kernel) (Nat.le_of_ble_eq_true rfl) ?_
  intro p e s m below meth c ls hx hb hr hlocks hml hown hname hts hwm hl
  have hown : s.vm.findClass "Nearplaces" = some m.cls := hown
  have hal : z.vm.Alike s.vm := hwm.alike
  have hCF : CallFix p m c cX1_areSame 4 s [.double x, .double y].toArray lw_all "Nearplaces" := ⟨hx, hb, hml, hown, hts⟩
  have hl : lv_has ls 4 [(0, .double x), (2, .double y)] := hl
  refine lv_dload_n hx hb dX1_areSame_0 rfl (lv_at hl 0 rfl) ?_
  refine gcS1_lP hCF hwm hl.1 (m_digitsOf l z H0 x hx0 ) (lw_S q196 q197 q65 q198) yd_X1_digitsOf ⟨Nat.le_of_ble_eq_true rfl, Nat.le_of_ble_eq_true rfl⟩ ⟨Nat.le_of_ble_eq_true rfl, Nat.le_of_ble_eq_true rfl⟩ (Nat.le_of_ble_eq_true rfl) dX1_areSame_1 (fun r_1 hp => ?_)
  subst hp
  refine lv_dload_n hx hb dX1_areSame_4 rfl (lv_at hl 1 rfl) ?_
  refine gcS1_lP hCF hwm hl.1 (m_digitsOf l z H0 y hy0 ) (lw_S q196 q197 q65 q198) yd_X1_digitsOf ⟨Nat.le_of_ble_eq_true rfl, Nat.le_of_ble_eq_true rfl⟩ ⟨Nat.le_of_ble_eq_true rfl, Nat.le_of_ble_eq_true rfl⟩ (Nat.le_of_ble_eq_true rfl) dX1_areSame_5 (fun r_2 hp => ?_)
  subst hp
  refine W.lcmp hx hb dX1_areSame_8 ?_
  refine lv_if_ne (tgt := 16) hx hb dX1_areSame_9 (by decide) (fun c_9 => ?_) (fun c_9 => ?_)
  · skip
    refine lv_iconst (v := 0) hx hb dX1_areSame_16 (by decide) ?_
    refine g_zretP hx hb hr hlocks (rfl) ?_ dX1_areSame_17
    first | (rw [show x = y from u64_inj (Int64.toInt_inj.mp (lc_eq.mp (Classical.not_not.mp c_9)))]; simp [gb]) | (rw [decide_eq_false (fun e => c_9 (by rw [e]; exact lc_eq.mpr rfl))]; rfl) | (rw [show x = y from u64_inj (Int64.toInt_inj.mp (lc_eq.mp c_9))]; simp [gb])
  · skip
    refine lv_iconst (v := 1) hx hb dX1_areSame_12 (by decide) ?_
    refine lv_goto (tgt := 17) hx hb dX1_areSame_13 (by decide) ?_
    refine g_zretP hx hb hr hlocks (rfl) ?_ dX1_areSame_17
    first | (rw [show x = y from u64_inj (Int64.toInt_inj.mp (lc_eq.mp (Classical.not_not.mp c_9)))]; simp [gb]) | (rw [decide_eq_false (fun e => c_9 (by rw [e]; exact lc_eq.mpr rfl))]; rfl) | (rw [show x = y from u64_inj (Int64.toInt_inj.mp (lc_eq.mp c_9))]; simp [gb])
set_option maxHeartbeats 1000000 in
theorem m_isIn (l : Launch) (z : State) (H0 : Heap) (v : Int32) (a : Int32) (b : Int32)   : Met l yX1_isIn (ws_ yX1_isIn cX1_isIn 3 (some .boolean)) { frames := 0, cells := 0, slots := 0, locals := 0 } (gPc z H0 [.int v, .int a, .int b]) (gPi H0 (fun r => r = gb (decide (a ≤ v ∧ v ≤ b)))) 0 0 gno := by
  refine g_start (by decide +kernel) (Nat.le_of_ble_eq_true rfl) ?_
  intro p e s m below meth c ls hx hb hr hlocks hml hown hname hts hwm hl
  have hown : s.vm.findClass "Nearplaces" = some m.cls := hown
  have hal : z.vm.Alike s.vm := hwm.alike
  have hCF : CallFix p m c cX1_isIn 3 s [.int v, .int a, .int b].toArray lw_all "Nearplaces" := ⟨hx, hb, hml, hown, hts⟩
  have hl : lv_has ls 3 [(0, .int v), (1, .int a), (2, .int b)] := hl
  refine lv_iload_n hx hb dX1_isIn_0 rfl (lv_at hl 0 rfl) ?_
  refine lv_iload_n hx hb dX1_isIn_1 rfl (lv_at hl 1 rfl) ?_
  refine lv_icmp_lt (tgt := 14) hx hb dX1_isIn_2 (by decide) (fun c_2 => ?_) (fun c_2 => ?_)
  · skip
    refine lv_iconst (v := 0) hx hb dX1_isIn_14 (by decide) ?_
    refine g_zretP hx hb hr hlocks (rfl) ?_ dX1_isIn_15
    simp only [gb]
    simp only [Int32.lt_iff_toInt_lt, Int32.le_iff_toInt_le] at *
    (repeat' split) <;> simp_all <;> omega
  · skip
    refine lv_iload_n hx hb dX1_isIn_5 rfl (lv_at hl 0 rfl) ?_
    refine lv_iload_n hx hb dX1_isIn_6 rfl (lv_at hl 2 rfl) ?_
    refine lv_icmp_gt (tgt := 14) hx hb dX1_isIn_7 (by decide) (fun c_7 => ?_) (fun c_7 => ?_)
    · skip
      refine lv_iconst (v := 0) hx hb dX1_isIn_14 (by decide) ?_
      refine g_zretP hx hb hr hlocks (rfl) ?_ dX1_isIn_15
      simp only [gb]
      simp only [Int32.lt_iff_toInt_lt, Int32.le_iff_toInt_le] at *
      (repeat' split) <;> simp_all <;> omega
    · skip
      refine lv_iconst (v := 1) hx hb dX1_isIn_10 (by decide) ?_
      refine lv_goto (tgt := 15) hx hb dX1_isIn_11 (by decide) ?_
      refine g_zretP hx hb hr hlocks (rfl) ?_ dX1_isIn_15
      simp only [gb]
      simp only [Int32.lt_iff_toInt_lt, Int32.le_iff_toInt_le] at *
      (repeat' split) <;> simp_all <;> omega
set_option maxHeartbeats 1000000 in
theorem m_mustBeCell (l : Launch) (z : State) (H0 : Heap)  (i : Nat) (hi : i < 8) : Met l yX1_mustBeCell (ws_ yX1_mustBeCell cX1_mustBeCell 1 (none)) { frames := 1, cells := 0, slots := 0, locals := 22 } (gPc z H0 [.int (nI i)]) (gPv H0 (True)) 0 0 gno := by
  refine g_start (by decide +kernel) (Nat.le_of_ble_eq_true rfl) ?_
  intro p e s m below meth c ls hx hb hr hlocks hml hown hname hts hwm hl
  have hown : s.vm.findClass "Nearplaces" = some m.cls := hown
  have hal : z.vm.Alike s.vm := hwm.alike
  have hCF : CallFix p m c cX1_mustBeCell 1 s [.int (nI i)].toArray lw_all "Nearplaces" := ⟨hx, hb, hml, hown, hts⟩
  have hl : lv_has ls 1 [(0, .int (nI i))] := hl
  refine lv_iload_n hx hb dX1_mustBeCell_0 rfl (lv_at hl 0 rfl) ?_
  refine lv_iconst (v := 0) hx hb dX1_mustBeCell_1 (by decide) ?_
  refine lv_bipush (v := 7) hx hb dX1_mustBeCell_2 (by decide) ?_
  refine gcS3_iP hCF hwm hl.1 (m_isIn l z H0 (nI i) 0 7  ) (lw_S q1485 q1486 q65 q1487) yd_X1_isIn ⟨Nat.le_of_ble_eq_true rfl, Nat.le_of_ble_eq_true rfl⟩ ⟨Nat.le_of_ble_eq_true rfl, Nat.le_of_ble_eq_true rfl⟩ (Nat.le_of_ble_eq_true rfl) dX1_mustBeCell_4 (fun r_1 hp => ?_)
  subst hp
  refine lv_if_ne (tgt := 18) hx hb dX1_mustBeCell_7 (by decide) (fun c_7 => ?_) (fun c_7 => absurd c_7 (by rw [decide_eq_true (show (0 : Int32) ≤ nI i ∧ nI i ≤ 7 from ⟨nI_pos' (by omega), nI_le (b := 7) (by omega) (by decide)⟩)]; decide))
  refine g_vretP hx hb hr hlocks ?_ dX1_mustBeCell_18
  trivial
set_option maxHeartbeats 1000000 in
theorem m_mustFit (l : Launch) (z : State) (H0 : Heap)    : Met l yX1_mustFit (ws_ yX1_mustFit cX1_mustFit 1 (none)) { frames := 0, cells := 0, slots := 0, locals := 0 } (gPc z H0 [.int (gb true)]) (gPv H0 (True)) 0 0 gno := by
  refine g_start (by decide +kernel) (Nat.le_of_ble_eq_true rfl) ?_
  intro p e s m below meth c ls hx hb hr hlocks hml hown hname hts hwm hl
  have hown : s.vm.findClass "Nearplaces" = some m.cls := hown
  have hal : z.vm.Alike s.vm := hwm.alike
  have hCF : CallFix p m c cX1_mustFit 1 s [.int (gb true)].toArray lw_all "Nearplaces" := ⟨hx, hb, hml, hown, hts⟩
  have hl : lv_has ls 1 [(0, .int (gb true))] := hl
  refine lv_iload_n hx hb dX1_mustFit_0 rfl (lv_at hl 0 rfl) ?_
  refine lv_if_ne (tgt := 12) hx hb dX1_mustFit_1 (by decide) (fun c_1 => ?_) (fun c_1 => absurd c_1 (by decide))
  refine g_vretP hx hb hr hlocks ?_ dX1_mustFit_12
  trivial
set_option maxHeartbeats 1000000 in
theorem m_bit (l : Launch) (z : State) (H0 : Heap)  (b : Bool)  : Met l yX1_bit (ws_ yX1_bit cX1_bit 1 (some .int)) { frames := 0, cells := 0, slots := 0, locals := 0 } (gPc z H0 [.int (gb b)]) (gPi H0 (fun r => r = gb b)) 0 0 gno := by
  refine g_start (by decide +kernel) (Nat.le_of_ble_eq_true rfl) ?_
  intro p e s m below meth c ls hx hb hr hlocks hml hown hname hts hwm hl
  have hown : s.vm.findClass "Nearplaces" = some m.cls := hown
  have hal : z.vm.Alike s.vm := hwm.alike
  have hCF : CallFix p m c cX1_bit 1 s [.int (gb b)].toArray lw_all "Nearplaces" := ⟨hx, hb, hml, hown, hts⟩
  have hl : lv_has ls 1 [(0, .int (gb b))] := hl
  refine lv_iload_n hx hb dX1_bit_0 rfl (lv_at hl 0 rfl) ?_
  refine lv_if_eq (tgt := 8) hx hb dX1_bit_1 (by decide) (fun c_1 => ?_) (fun c_1 => ?_)
  · skip
    refine lv_iconst (v := 0) hx hb dX1_bit_8 (by decide) ?_
    refine g_iretP hx hb hr hlocks ?_ dX1_bit_9
    cases b <;> first | rfl | exact absurd rfl c_1 | exact absurd c_1 (by decide)
  · skip
    refine lv_iconst (v := 1) hx hb dX1_bit_4 (by decide) ?_
    refine lv_goto (tgt := 9) hx hb dX1_bit_5 (by decide) ?_
    refine g_iretP hx hb hr hlocks ?_ dX1_bit_9
    cases b <;> first | rfl | exact absurd rfl c_1 | exact absurd c_1 (by decide)
set_option maxHeartbeats 1000000 in
theorem m_knotPoint (l : Launch) (z : State) (H0 : Heap)  (i : Nat) {A : Nat → Prop} (k : Nat → Nat) (hi : i < 32) (hk : sN z k A H0) : Met l yX1_knotPoint (ws_ yX1_knotPoint cX1_knotPoint 1 (some .long)) { frames := 0, cells := 0, slots := 0, locals := 0 } (gPc z H0 [.int (nI i)]) (gPl H0 (fun r => r = lN (kPt i))) 0 0 gno := by
  refine g_start (by decide +kernel) (Nat.le_of_ble_eq_true rfl) ?_
  intro p e s m below meth c ls hx hb hr hlocks hml hown hname hts hwm hl
  have hown : s.vm.findClass "Nearplaces" = some m.cls := hown
  have hal : z.vm.Alike s.vm := hwm.alike
  have hCF : CallFix p m c cX1_knotPoint 1 s [.int (nI i)].toArray lw_all "Nearplaces" := ⟨hx, hb, hml, hown, hts⟩
  have hl : lv_has ls 1 [(0, .int (nI i))] := hl
  refine gw_getsP hx hb hal hk.1.1 hown (hts _ q1792) (fun _ h9 => h9) dX1_knotPoint_0 ?_
  refine lv_iload_n hx hb dX1_knotPoint_3 rfl (lv_at hl 0 rfl) ?_
  refine gw_iald hx hb hal hk.2.1.1 i (rfl) (hi) (by decide) dX1_knotPoint_4 ?_
  refine lv_i2l hx hb dX1_knotPoint_5 rfl ?_
  refine lv_bipush (v := 52) hx hb dX1_knotPoint_6 (by decide) ?_
  refine lv_lshl hx hb dX1_knotPoint_8 rfl ?_
  refine gw_getsP hx hb hal hk.1.2 hown (hts _ q1794) (fun _ h9 => h9) dX1_knotPoint_9 ?_
  refine lv_iload_n hx hb dX1_knotPoint_12 rfl (lv_at hl 0 rfl) ?_
  refine gw_lald hx hb hal hk.2.1.2 i (rfl) (hi) (by decide) dX1_knotPoint_13 ?_
  refine lv_lor hx hb dX1_knotPoint_14 ?_
  refine g_lretP hx hb hr hlocks ?_ dX1_knotPoint_15
  exact (kP_ok i hi).1
set_option maxHeartbeats 1000000 in
theorem m_windowOf (l : Launch) (z : State) (H0 : Heap)  (q : Nat) {A : Nat → Prop} (k : Nat → Nat) (hq : q < 9223372036854775808) (hk : sN z k A H0) : Met l yX1_windowOf (ws_ yX1_windowOf cX1_windowOf 5 (some .int)) { frames := 1, cells := 0, slots := 0, locals := 20 } (gPc z H0 [.long (lN q)]) (gPi H0 (fun r => r = winI q)) 0 0 gno := by
  refine g_start (by decide +kernel) (Nat.le_of_ble_eq_true rfl) ?_
  intro p e s m below meth c ls hx hb hr hlocks hml hown hname hts hwm hl
  have hown : s.vm.findClass "Nearplaces" = some m.cls := hown
  have hal : z.vm.Alike s.vm := hwm.alike
  have hCF : CallFix p m c cX1_windowOf 5 s [.long (lN q)].toArray lw_all "Nearplaces" := ⟨hx, hb, hml, hown, hts⟩
  have hl : lv_has ls 5 [(0, .long (lN q))] := hl
  refine lv_lload_n hx hb dX1_windowOf_0 rfl (lv_at hl 0 rfl) ?_
  refine lv_ldc2 (v := 9218868437227405311) hx hb hown (hts _ q1803) dX1_windowOf_1 ?_
  refine W.lcmp hx hb dX1_windowOf_4 ?_
  refine lv_if_le (tgt := 10) hx hb dX1_windowOf_5 (by decide) (fun c_5 => ?_) (fun c_5 => ?_)
  · skip
    refine lv_iconst (v := 0) hx hb dX1_windowOf_10 (by decide) ?_
    refine lv_istore_n hx hb dX1_windowOf_11 rfl hl (by decide) rfl (fun ls hl => ?_)
    have hl : lv_has ls 5 [(2, .int 0), (0, .long (lN q))] := hl
    have loop : ∀ (n_ : Nat) (i : Nat), (i ≤ 32) → (∀ j, j < i → ¬ kNear q j) → (32 - i) < n_ → ∀ (ls : Array Slot), lv_has ls 5 [(2, .int (nI i)), (0, .long (lN q))] → W p l e { frames := 1, cells := 0, slots := 0, locals := 20 } s m [.long (lN q)].toArray below meth c H0 [] 0 0 (MQ below (gPi H0 (fun r => r = winI q)) [.long (lN q)].toArray s 0 0 (gno)) (F0 m 12 ls []) := by
      intro n_
      induction n_ with
      | zero => intro i hi hj hm_; exact absurd hm_ (Nat.not_lt_zero _)
      | succ n_ ih_loop =>
        intro i hi hj hm_ ls hl
        refine lv_iload_n hx hb dX1_windowOf_12 rfl (lv_at hl 0 rfl) ?_
        refine lv_bipush (v := 32) hx hb dX1_windowOf_13 (by decide) ?_
        refine lv_icmp_ge (tgt := 49) hx hb dX1_windowOf_15 (by decide) (fun c_15 => ?_) (fun c_15 => ?_)
        · skip
          refine lv_iconst (v := -1) hx hb dX1_windowOf_49 (by decide) ?_
          refine g_iretP hx hb hr hlocks ?_ dX1_windowOf_50
          have h5 : 32 ≤ i := Nat.le_of_not_lt (fun a => absurd c_15 (nI_ge a (by decide)))
          rw [winI, win_none (fun j hj3 => hj j (Nat.lt_of_lt_of_le hj3 h5))]
        · skip
          refine lv_lload_n hx hb dX1_windowOf_18 rfl (lv_at hl 1 rfl) ?_
          have hi2 : i < 32 := by rcases Nat.lt_or_ge i 32 with a | a; exact a; exact absurd (nI_le (a := 32) a (by omega)) c_15
          refine lv_iload_n hx hb dX1_windowOf_19 rfl (lv_at hl 0 rfl) ?_
          refine gcS1_lP hCF hwm hl.1 (m_knotPoint l z H0  i k hi2 hk ) (lw_S q1789 q1790 q65 q1791) yd_X1_knotPoint ⟨Nat.le_of_ble_eq_true rfl, Nat.le_of_ble_eq_true rfl⟩ ⟨Nat.le_of_ble_eq_true rfl, Nat.le_of_ble_eq_true rfl⟩ (Nat.le_of_ble_eq_true rfl) dX1_windowOf_20 (fun r_1 hp => ?_)
          subst hp
          refine lv_lsub hx hb dX1_windowOf_23 ?_
          refine lv_topl (fun d ed => ?_)
          have ex := kP_ofs (p := q) (i := i) hq hi2
          rw [← ed] at ex
          refine lv_lstore_n hx hb dX1_windowOf_24 rfl hl (by decide) rfl (fun ls hl => ?_)
          have hl : lv_has ls 5 [(3, .long d), (2, .int (nI i)), (0, .long (lN q))] := hl
          refine lv_lload_n hx hb dX1_windowOf_25 rfl (lv_at hl 0 rfl) ?_
          refine lv_ldc2 (v := -512) hx hb hown (hts _ q1804) dX1_windowOf_26 ?_
          refine W.lcmp hx hb dX1_windowOf_29 ?_
          refine lv_if_lt (tgt := 43) hx hb dX1_windowOf_30 (by decide) (fun c_30 => ?_) (fun c_30 => ?_)
          · skip
            have hj2 : ∀ j, j < i + 1 → ¬ kNear q j := lt_s hj (fun hn => by unfold kNear at hn; first | (have c9 := lc_lt.mp c_30; rw [ex] at c9; rw [show ((-512 : Int64)).toInt = -512 from by decide] at c9; omega) | (have c9 := lc_gt.mp c_38; rw [ex] at c9; rw [show ((511 : Int64)).toInt = 511 from by decide] at c9; omega))
            refine lv_iinc (k := 1) (v := (nI (i + 1))) hx hb dX1_windowOf_43 hl rfl (nI_1 i) (by decide) rfl (fun ls hl => ?_)
            have hl : lv_has ls 5 [(2, .int (nI (i + 1))), (3, .long d), (0, .long (lN q))] := hl
            refine lv_goto (tgt := 12) hx hb dX1_windowOf_46 (by decide) ?_
            exact ih_loop (i + 1) (by omega) hj2 (by omega) ls (lv_sub hl [0, 2] rfl)
          · skip
            refine lv_lload_n hx hb dX1_windowOf_33 rfl (lv_at hl 0 rfl) ?_
            refine lv_ldc2 (v := 511) hx hb hown (hts _ q1805) dX1_windowOf_34 ?_
            refine W.lcmp hx hb dX1_windowOf_37 ?_
            refine lv_if_gt (tgt := 43) hx hb dX1_windowOf_38 (by decide) (fun c_38 => ?_) (fun c_38 => ?_)
            · skip
              have hj2 : ∀ j, j < i + 1 → ¬ kNear q j := lt_s hj (fun hn => by unfold kNear at hn; first | (have c9 := lc_lt.mp c_30; rw [ex] at c9; rw [show ((-512 : Int64)).toInt = -512 from by decide] at c9; omega) | (have c9 := lc_gt.mp c_38; rw [ex] at c9; rw [show ((511 : Int64)).toInt = 511 from by decide] at c9; omega))
              refine lv_iinc (k := 1) (v := (nI (i + 1))) hx hb dX1_windowOf_43 hl rfl (nI_1 i) (by decide) rfl (fun ls hl => ?_)
              have hl : lv_has ls 5 [(2, .int (nI (i + 1))), (3, .long d), (0, .long (lN q))] := hl
              refine lv_goto (tgt := 12) hx hb dX1_windowOf_46 (by decide) ?_
              exact ih_loop (i + 1) (by omega) hj2 (by omega) ls (lv_sub hl [0, 2] rfl)
            · skip
              refine lv_iload_n hx hb dX1_windowOf_41 rfl (lv_at hl 1 rfl) ?_
              refine g_iretP hx hb hr hlocks ?_ dX1_windowOf_42
              rw [winI, win_first (p := q) (i := i) (by have := lc_le.mp c_5; rw [pk_lT (by omega)] at this; rw [show ((9218868437227405311 : Int64)).toInt = 9218868437227405311 from by decide] at this; omega) hi2 ?_ hj]
              have c8 := lc_ge.mp (Int32.not_lt.mp c_30)
              have c9 := lc_le.mp (Int32.not_lt.mp c_38)
              rw [show ((-512 : Int64)).toInt = -512 from by decide] at c8
              rw [show ((511 : Int64)).toInt = 511 from by decide] at c9
              rw [ex] at c8 c9
              unfold kNear
              omega
    exact loop _ 0 (by omega) (fun j hj => absurd hj (Nat.not_lt_zero j)) (Nat.lt_succ_self _) ls (lv_sub hl [0, 1] rfl)
  · skip
    refine lv_iconst (v := -1) hx hb dX1_windowOf_8 (by decide) ?_
    refine g_iretP hx hb hr hlocks ?_ dX1_windowOf_9
    rw [winI, win_top (by have := lc_gt.mp (Int32.not_le.mp c_5); rw [pk_lT (by omega)] at this; rw [show ((9218868437227405311 : Int64)).toInt = 9218868437227405311 from by decide] at this; omega)]
