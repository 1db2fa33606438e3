/-! ## walks (written by tools) -/
set_option maxRecDepth 100000
def dkwJ6_init_2_1 : List UInt8 := [167, 0, 16, 42, 27, 184, 0, 26, 181, 0, 15, 42, 4, 181, 0, 22, 177]
abbrev dktJ6_init_2_1 : List UInt8 := dkwJ6_init_2_1 ++ []
def dkwJ6_init_2_0 : List UInt8 := [42, 183, 0, 3, 178, 0, 18, 153, 0, 18, 42, 27, 188, 8, 181, 0, 15, 42, 3, 181, 0, 22]
abbrev dktJ6_init_2_0 : List UInt8 := dkwJ6_init_2_0 ++ dktJ6_init_2_1
theorem dksJ6_init_2_0 : cJ6_init_2.data.toList.drop 0 = dktJ6_init_2_0 := by decide +kernel
theorem dksJ6_init_2_1 : cJ6_init_2.data.toList.drop 22 = dktJ6_init_2_1 := dk_seg dksJ6_init_2_0 22 rfl rfl
theorem dJ6_init_2_0 : decode cJ6_init_2 0 = .ok (.aload_n 0, 1) := dk_42 (dk_at dksJ6_init_2_0 0 rfl rfl)
theorem dJ6_init_2_1 : decode cJ6_init_2 1 = .ok (.invokespecial 3, 3) := dk_183 0 3 (dk_at dksJ6_init_2_0 1 rfl rfl)
theorem dJ6_init_2_4 : decode cJ6_init_2 4 = .ok (.getstatic 18, 3) := dk_178 0 18 (dk_at dksJ6_init_2_0 4 rfl rfl)
theorem dJ6_init_2_7 : decode cJ6_init_2 7 = .ok (.ifCond .eq 18, 3) := dk_153 0 18 (dk_at dksJ6_init_2_0 7 rfl rfl)
theorem dJ6_init_2_10 : decode cJ6_init_2 10 = .ok (.aload_n 0, 1) := dk_42 (dk_at dksJ6_init_2_0 10 rfl rfl)
theorem dJ6_init_2_11 : decode cJ6_init_2 11 = .ok (.iload_n 1, 1) := dk_27 (dk_at dksJ6_init_2_0 11 rfl rfl)
theorem dJ6_init_2_12 : decode cJ6_init_2 12 = .ok (.newarray .byte, 2) := dk_188_8 (dk_at dksJ6_init_2_0 12 rfl rfl)
theorem dJ6_init_2_14 : decode cJ6_init_2 14 = .ok (.putfield 15, 3) := dk_181 0 15 (dk_at dksJ6_init_2_0 14 rfl rfl)
theorem dJ6_init_2_17 : decode cJ6_init_2 17 = .ok (.aload_n 0, 1) := dk_42 (dk_at dksJ6_init_2_0 17 rfl rfl)
theorem dJ6_init_2_18 : decode cJ6_init_2 18 = .ok (.iconst 0, 1) := dk_3 (dk_at dksJ6_init_2_0 18 rfl rfl)
theorem dJ6_init_2_19 : decode cJ6_init_2 19 = .ok (.putfield 22, 3) := dk_181 0 22 (dk_at dksJ6_init_2_0 19 rfl rfl)
theorem dJ6_init_2_22 : decode cJ6_init_2 22 = .ok (.goto 16, 3) := dk_167 0 16 (dk_at dksJ6_init_2_1 0 rfl rfl)
theorem dJ6_init_2_25 : decode cJ6_init_2 25 = .ok (.aload_n 0, 1) := dk_42 (dk_at dksJ6_init_2_1 3 rfl rfl)
theorem dJ6_init_2_26 : decode cJ6_init_2 26 = .ok (.iload_n 1, 1) := dk_27 (dk_at dksJ6_init_2_1 4 rfl rfl)
theorem dJ6_init_2_27 : decode cJ6_init_2 27 = .ok (.invokestatic 26, 3) := dk_184 0 26 (dk_at dksJ6_init_2_1 5 rfl rfl)
theorem dJ6_init_2_30 : decode cJ6_init_2 30 = .ok (.putfield 15, 3) := dk_181 0 15 (dk_at dksJ6_init_2_1 8 rfl rfl)
theorem dJ6_init_2_33 : decode cJ6_init_2 33 = .ok (.aload_n 0, 1) := dk_42 (dk_at dksJ6_init_2_1 11 rfl rfl)
theorem dJ6_init_2_34 : decode cJ6_init_2 34 = .ok (.iconst 1, 1) := dk_4 (dk_at dksJ6_init_2_1 12 rfl rfl)
theorem dJ6_init_2_35 : decode cJ6_init_2 35 = .ok (.putfield 22, 3) := dk_181 0 22 (dk_at dksJ6_init_2_1 13 rfl rfl)
theorem dJ6_init_2_38 : decode cJ6_init_2 38 = .ok (.return_, 1) := dk_177 (dk_at dksJ6_init_2_1 16 rfl rfl)
def dkwJ7_init_3_0 : List UInt8 := [42, 27, 183, 0, 1, 177]
abbrev dktJ7_init_3_0 : List UInt8 := dkwJ7_init_3_0 ++ []
theorem dksJ7_init_3_0 : cJ7_init_3.data.toList.drop 0 = dktJ7_init_3_0 := by decide +kernel
theorem dJ7_init_3_0 : decode cJ7_init_3 0 = .ok (.aload_n 0, 1) := dk_42 (dk_at dksJ7_init_3_0 0 rfl rfl)
theorem dJ7_init_3_1 : decode cJ7_init_3 1 = .ok (.iload_n 1, 1) := dk_27 (dk_at dksJ7_init_3_0 1 rfl rfl)
theorem dJ7_init_3_2 : decode cJ7_init_3 2 = .ok (.invokespecial 1, 3) := dk_183 0 1 (dk_at dksJ7_init_3_0 2 rfl rfl)
theorem dJ7_init_3_5 : decode cJ7_init_3 5 = .ok (.return_, 1) := dk_177 (dk_at dksJ7_init_3_0 5 rfl rfl)
def dkwJ7_init_2_0 : List UInt8 := [42, 16, 16, 183, 0, 1, 177]
abbrev dktJ7_init_2_0 : List UInt8 := dkwJ7_init_2_0 ++ []
theorem dksJ7_init_2_0 : cJ7_init_2.data.toList.drop 0 = dktJ7_init_2_0 := by decide +kernel
theorem dJ7_init_2_0 : decode cJ7_init_2 0 = .ok (.aload_n 0, 1) := dk_42 (dk_at dksJ7_init_2_0 0 rfl rfl)
theorem dJ7_init_2_1 : decode cJ7_init_2 1 = .ok (.bipush 16, 2) := dk_16 16 (dk_at dksJ7_init_2_0 1 rfl rfl)
theorem dJ7_init_2_3 : decode cJ7_init_2 3 = .ok (.invokespecial 1, 3) := dk_183 0 1 (dk_at dksJ7_init_2_0 3 rfl rfl)
theorem dJ7_init_2_6 : decode cJ7_init_2 6 = .ok (.return_, 1) := dk_177 (dk_at dksJ7_init_2_0 6 rfl rfl)
def dkwJ5_init_2_4 : List UInt8 := [181, 0, 9, 177]
abbrev dktJ5_init_2_4 : List UInt8 := dkwJ5_init_2_4 ++ []
def dkwJ5_init_2_3 : List UInt8 := [184, 0, 47, 181, 0, 15, 177, 42, 4, 181, 0, 15, 42, 45, 3, 21, 4, 4, 120, 184, 0, 54]
abbrev dktJ5_init_2_3 : List UInt8 := dkwJ5_init_2_3 ++ dktJ5_init_2_4
def dkwJ5_init_2_2 : List UInt8 := [180, 4, 24, 153, 0, 28, 42, 45, 3, 21, 4, 184, 4, 27, 181, 0, 9, 42, 42, 180, 0, 9, 21, 4]
abbrev dktJ5_init_2_2 : List UInt8 := dkwJ5_init_2_2 ++ dktJ5_init_2_3
def dkwJ5_init_2_1 : List UInt8 := [181, 0, 15, 42, 45, 3, 21, 4, 184, 0, 54, 181, 0, 9, 167, 0, 59, 178, 0, 38, 153, 0, 35, 43]
abbrev dktJ5_init_2_1 : List UInt8 := dkwJ5_init_2_1 ++ dktJ5_init_2_2
def dkwJ5_init_2_0 : List UInt8 := [42, 183, 0, 1, 43, 182, 2, 40, 78, 43, 182, 2, 37, 54, 4, 43, 182, 4, 23, 153, 0, 22, 42, 3]
abbrev dktJ5_init_2_0 : List UInt8 := dkwJ5_init_2_0 ++ dktJ5_init_2_1
theorem dksJ5_init_2_0 : cJ5_init_2.data.toList.drop 0 = dktJ5_init_2_0 := by decide +kernel
theorem dksJ5_init_2_1 : cJ5_init_2.data.toList.drop 24 = dktJ5_init_2_1 := dk_seg dksJ5_init_2_0 24 rfl rfl
theorem dksJ5_init_2_2 : cJ5_init_2.data.toList.drop 48 = dktJ5_init_2_2 := dk_seg dksJ5_init_2_1 24 rfl rfl
theorem dksJ5_init_2_3 : cJ5_init_2.data.toList.drop 72 = dktJ5_init_2_3 := dk_seg dksJ5_init_2_2 24 rfl rfl
theorem dksJ5_init_2_4 : cJ5_init_2.data.toList.drop 94 = dktJ5_init_2_4 := dk_seg dksJ5_init_2_3 22 rfl rfl
theorem dJ5_init_2_0 : decode cJ5_init_2 0 = .ok (.aload_n 0, 1) := dk_42 (dk_at dksJ5_init_2_0 0 rfl rfl)
theorem dJ5_init_2_1 : decode cJ5_init_2 1 = .ok (.invokespecial 1, 3) := dk_183 0 1 (dk_at dksJ5_init_2_0 1 rfl rfl)
theorem dJ5_init_2_4 : decode cJ5_init_2 4 = .ok (.aload_n 1, 1) := dk_43 (dk_at dksJ5_init_2_0 4 rfl rfl)
theorem dJ5_init_2_5 : decode cJ5_init_2 5 = .ok (.invokevirtual 552, 3) := dk_182 2 40 (dk_at dksJ5_init_2_0 5 rfl rfl)
theorem dJ5_init_2_8 : decode cJ5_init_2 8 = .ok (.astore_n 3, 1) := dk_78 (dk_at dksJ5_init_2_0 8 rfl rfl)
theorem dJ5_init_2_9 : decode cJ5_init_2 9 = .ok (.aload_n 1, 1) := dk_43 (dk_at dksJ5_init_2_0 9 rfl rfl)
theorem dJ5_init_2_10 : decode cJ5_init_2 10 = .ok (.invokevirtual 549, 3) := dk_182 2 37 (dk_at dksJ5_init_2_0 10 rfl rfl)
theorem dJ5_init_2_13 : decode cJ5_init_2 13 = .ok (.istore 4, 2) := dk_54 4 (dk_at dksJ5_init_2_0 13 rfl rfl)
theorem dJ5_init_2_15 : decode cJ5_init_2 15 = .ok (.aload_n 1, 1) := dk_43 (dk_at dksJ5_init_2_0 15 rfl rfl)
theorem dJ5_init_2_16 : decode cJ5_init_2 16 = .ok (.invokevirtual 1047, 3) := dk_182 4 23 (dk_at dksJ5_init_2_0 16 rfl rfl)
theorem dJ5_init_2_19 : decode cJ5_init_2 19 = .ok (.ifCond .eq 22, 3) := dk_153 0 22 (dk_at dksJ5_init_2_0 19 rfl rfl)
theorem dJ5_init_2_22 : decode cJ5_init_2 22 = .ok (.aload_n 0, 1) := dk_42 (dk_at dksJ5_init_2_0 22 rfl rfl)
theorem dJ5_init_2_23 : decode cJ5_init_2 23 = .ok (.iconst 0, 1) := dk_3 (dk_at dksJ5_init_2_0 23 rfl rfl)
theorem dJ5_init_2_24 : decode cJ5_init_2 24 = .ok (.putfield 15, 3) := dk_181 0 15 (dk_at dksJ5_init_2_1 0 rfl rfl)
theorem dJ5_init_2_27 : decode cJ5_init_2 27 = .ok (.aload_n 0, 1) := dk_42 (dk_at dksJ5_init_2_1 3 rfl rfl)
theorem dJ5_init_2_28 : decode cJ5_init_2 28 = .ok (.aload_n 3, 1) := dk_45 (dk_at dksJ5_init_2_1 4 rfl rfl)
theorem dJ5_init_2_29 : decode cJ5_init_2 29 = .ok (.iconst 0, 1) := dk_3 (dk_at dksJ5_init_2_1 5 rfl rfl)
theorem dJ5_init_2_30 : decode cJ5_init_2 30 = .ok (.iload 4, 2) := dk_21 4 (dk_at dksJ5_init_2_1 6 rfl rfl)
theorem dJ5_init_2_32 : decode cJ5_init_2 32 = .ok (.invokestatic 54, 3) := dk_184 0 54 (dk_at dksJ5_init_2_1 8 rfl rfl)
theorem dJ5_init_2_35 : decode cJ5_init_2 35 = .ok (.putfield 9, 3) := dk_181 0 9 (dk_at dksJ5_init_2_1 11 rfl rfl)
theorem dJ5_init_2_38 : decode cJ5_init_2 38 = .ok (.goto 59, 3) := dk_167 0 59 (dk_at dksJ5_init_2_1 14 rfl rfl)
theorem dJ5_init_2_41 : decode cJ5_init_2 41 = .ok (.getstatic 38, 3) := dk_178 0 38 (dk_at dksJ5_init_2_1 17 rfl rfl)
theorem dJ5_init_2_44 : decode cJ5_init_2 44 = .ok (.ifCond .eq 35, 3) := dk_153 0 35 (dk_at dksJ5_init_2_1 20 rfl rfl)
theorem dJ5_init_2_47 : decode cJ5_init_2 47 = .ok (.aload_n 1, 1) := dk_43 (dk_at dksJ5_init_2_1 23 rfl rfl)
theorem dJ5_init_2_48 : decode cJ5_init_2 48 = .ok (.getfield 1048, 3) := dk_180 4 24 (dk_at dksJ5_init_2_2 0 rfl rfl)
theorem dJ5_init_2_51 : decode cJ5_init_2 51 = .ok (.ifCond .eq 28, 3) := dk_153 0 28 (dk_at dksJ5_init_2_2 3 rfl rfl)
theorem dJ5_init_2_54 : decode cJ5_init_2 54 = .ok (.aload_n 0, 1) := dk_42 (dk_at dksJ5_init_2_2 6 rfl rfl)
theorem dJ5_init_2_55 : decode cJ5_init_2 55 = .ok (.aload_n 3, 1) := dk_45 (dk_at dksJ5_init_2_2 7 rfl rfl)
theorem dJ5_init_2_56 : decode cJ5_init_2 56 = .ok (.iconst 0, 1) := dk_3 (dk_at dksJ5_init_2_2 8 rfl rfl)
theorem dJ5_init_2_57 : decode cJ5_init_2 57 = .ok (.iload 4, 2) := dk_21 4 (dk_at dksJ5_init_2_2 9 rfl rfl)
theorem dJ5_init_2_59 : decode cJ5_init_2 59 = .ok (.invokestatic 1051, 3) := dk_184 4 27 (dk_at dksJ5_init_2_2 11 rfl rfl)
theorem dJ5_init_2_62 : decode cJ5_init_2 62 = .ok (.putfield 9, 3) := dk_181 0 9 (dk_at dksJ5_init_2_2 14 rfl rfl)
theorem dJ5_init_2_65 : decode cJ5_init_2 65 = .ok (.aload_n 0, 1) := dk_42 (dk_at dksJ5_init_2_2 17 rfl rfl)
theorem dJ5_init_2_66 : decode cJ5_init_2 66 = .ok (.aload_n 0, 1) := dk_42 (dk_at dksJ5_init_2_2 18 rfl rfl)
theorem dJ5_init_2_67 : decode cJ5_init_2 67 = .ok (.getfield 9, 3) := dk_180 0 9 (dk_at dksJ5_init_2_2 19 rfl rfl)
theorem dJ5_init_2_70 : decode cJ5_init_2 70 = .ok (.iload 4, 2) := dk_21 4 (dk_at dksJ5_init_2_2 22 rfl rfl)
theorem dJ5_init_2_72 : decode cJ5_init_2 72 = .ok (.invokestatic 47, 3) := dk_184 0 47 (dk_at dksJ5_init_2_3 0 rfl rfl)
theorem dJ5_init_2_75 : decode cJ5_init_2 75 = .ok (.putfield 15, 3) := dk_181 0 15 (dk_at dksJ5_init_2_3 3 rfl rfl)
theorem dJ5_init_2_78 : decode cJ5_init_2 78 = .ok (.return_, 1) := dk_177 (dk_at dksJ5_init_2_3 6 rfl rfl)
theorem dJ5_init_2_79 : decode cJ5_init_2 79 = .ok (.aload_n 0, 1) := dk_42 (dk_at dksJ5_init_2_3 7 rfl rfl)
theorem dJ5_init_2_80 : decode cJ5_init_2 80 = .ok (.iconst 1, 1) := dk_4 (dk_at dksJ5_init_2_3 8 rfl rfl)
theorem dJ5_init_2_81 : decode cJ5_init_2 81 = .ok (.putfield 15, 3) := dk_181 0 15 (dk_at dksJ5_init_2_3 9 rfl rfl)
theorem dJ5_init_2_84 : decode cJ5_init_2 84 = .ok (.aload_n 0, 1) := dk_42 (dk_at dksJ5_init_2_3 12 rfl rfl)
theorem dJ5_init_2_85 : decode cJ5_init_2 85 = .ok (.aload_n 3, 1) := dk_45 (dk_at dksJ5_init_2_3 13 rfl rfl)
theorem dJ5_init_2_86 : decode cJ5_init_2 86 = .ok (.iconst 0, 1) := dk_3 (dk_at dksJ5_init_2_3 14 rfl rfl)
theorem dJ5_init_2_87 : decode cJ5_init_2 87 = .ok (.iload 4, 2) := dk_21 4 (dk_at dksJ5_init_2_3 15 rfl rfl)
theorem dJ5_init_2_89 : decode cJ5_init_2 89 = .ok (.iconst 1, 1) := dk_4 (dk_at dksJ5_init_2_3 17 rfl rfl)
theorem dJ5_init_2_90 : decode cJ5_init_2 90 = .ok (.ishl, 1) := dk_120 (dk_at dksJ5_init_2_3 18 rfl rfl)
theorem dJ5_init_2_91 : decode cJ5_init_2 91 = .ok (.invokestatic 54, 3) := dk_184 0 54 (dk_at dksJ5_init_2_3 19 rfl rfl)
theorem dJ5_init_2_94 : decode cJ5_init_2 94 = .ok (.putfield 9, 3) := dk_181 0 9 (dk_at dksJ5_init_2_4 0 rfl rfl)
theorem dJ5_init_2_97 : decode cJ5_init_2 97 = .ok (.return_, 1) := dk_177 (dk_at dksJ5_init_2_4 3 rfl rfl)
def dkwJ5_init_0 : List UInt8 := [42, 43, 1, 183, 1, 233, 177]
abbrev dktJ5_init_0 : List UInt8 := dkwJ5_init_0 ++ []
theorem dksJ5_init_0 : cJ5_init.data.toList.drop 0 = dktJ5_init_0 := by decide +kernel
theorem dJ5_init_0 : decode cJ5_init 0 = .ok (.aload_n 0, 1) := dk_42 (dk_at dksJ5_init_0 0 rfl rfl)
theorem dJ5_init_1 : decode cJ5_init 1 = .ok (.aload_n 1, 1) := dk_43 (dk_at dksJ5_init_0 1 rfl rfl)
theorem dJ5_init_2 : decode cJ5_init 2 = .ok (.aconst_null, 1) := dk_1 (dk_at dksJ5_init_0 2 rfl rfl)
theorem dJ5_init_3 : decode cJ5_init 3 = .ok (.invokespecial 489, 3) := dk_183 1 233 (dk_at dksJ5_init_0 3 rfl rfl)
theorem dJ5_init_6 : decode cJ5_init 6 = .ok (.return_, 1) := dk_177 (dk_at dksJ5_init_0 6 rfl rfl)
def dkwJ7_toString_0 : List UInt8 := [187, 0, 18, 89, 42, 183, 0, 137, 176]
abbrev dktJ7_toString_0 : List UInt8 := dkwJ7_toString_0 ++ []
theorem dksJ7_toString_0 : cJ7_toString.data.toList.drop 0 = dktJ7_toString_0 := by decide +kernel
theorem dJ7_toString_0 : decode cJ7_toString 0 = .ok (.new 18, 3) := dk_187 0 18 (dk_at dksJ7_toString_0 0 rfl rfl)
theorem dJ7_toString_3 : decode cJ7_toString 3 = .ok (.dup, 1) := dk_89 (dk_at dksJ7_toString_0 3 rfl rfl)
theorem dJ7_toString_4 : decode cJ7_toString 4 = .ok (.aload_n 0, 1) := dk_42 (dk_at dksJ7_toString_0 4 rfl rfl)
theorem dJ7_toString_5 : decode cJ7_toString 5 = .ok (.invokespecial 137, 3) := dk_183 0 137 (dk_at dksJ7_toString_0 5 rfl rfl)
theorem dJ7_toString_8 : decode cJ7_toString 8 = .ok (.areturn, 1) := dk_176 (dk_at dksJ7_toString_0 8 rfl rfl)
def dkwJ6_shift_1 : List UInt8 := [180, 0, 79, 27, 100, 42, 180, 0, 22, 120, 184, 1, 53, 177]
abbrev dktJ6_shift_1 : List UInt8 := dkwJ6_shift_1 ++ []
def dkwJ6_shift_0 : List UInt8 := [42, 180, 0, 15, 27, 42, 180, 0, 22, 120, 42, 180, 0, 15, 27, 28, 96, 42, 180, 0, 22, 120, 42]
abbrev dktJ6_shift_0 : List UInt8 := dkwJ6_shift_0 ++ dktJ6_shift_1
theorem dksJ6_shift_0 : cJ6_shift.data.toList.drop 0 = dktJ6_shift_0 := by decide +kernel
theorem dksJ6_shift_1 : cJ6_shift.data.toList.drop 23 = dktJ6_shift_1 := dk_seg dksJ6_shift_0 23 rfl rfl
theorem dJ6_shift_0 : decode cJ6_shift 0 = .ok (.aload_n 0, 1) := dk_42 (dk_at dksJ6_shift_0 0 rfl rfl)
theorem dJ6_shift_1 : decode cJ6_shift 1 = .ok (.getfield 15, 3) := dk_180 0 15 (dk_at dksJ6_shift_0 1 rfl rfl)
theorem dJ6_shift_4 : decode cJ6_shift 4 = .ok (.iload_n 1, 1) := dk_27 (dk_at dksJ6_shift_0 4 rfl rfl)
theorem dJ6_shift_5 : decode cJ6_shift 5 = .ok (.aload_n 0, 1) := dk_42 (dk_at dksJ6_shift_0 5 rfl rfl)
theorem dJ6_shift_6 : decode cJ6_shift 6 = .ok (.getfield 22, 3) := dk_180 0 22 (dk_at dksJ6_shift_0 6 rfl rfl)
theorem dJ6_shift_9 : decode cJ6_shift 9 = .ok (.ishl, 1) := dk_120 (dk_at dksJ6_shift_0 9 rfl rfl)
theorem dJ6_shift_10 : decode cJ6_shift 10 = .ok (.aload_n 0, 1) := dk_42 (dk_at dksJ6_shift_0 10 rfl rfl)
theorem dJ6_shift_11 : decode cJ6_shift 11 = .ok (.getfield 15, 3) := dk_180 0 15 (dk_at dksJ6_shift_0 11 rfl rfl)
theorem dJ6_shift_14 : decode cJ6_shift 14 = .ok (.iload_n 1, 1) := dk_27 (dk_at dksJ6_shift_0 14 rfl rfl)
theorem dJ6_shift_15 : decode cJ6_shift 15 = .ok (.iload_n 2, 1) := dk_28 (dk_at dksJ6_shift_0 15 rfl rfl)
theorem dJ6_shift_16 : decode cJ6_shift 16 = .ok (.iadd, 1) := dk_96 (dk_at dksJ6_shift_0 16 rfl rfl)
theorem dJ6_shift_17 : decode cJ6_shift 17 = .ok (.aload_n 0, 1) := dk_42 (dk_at dksJ6_shift_0 17 rfl rfl)
theorem dJ6_shift_18 : decode cJ6_shift 18 = .ok (.getfield 22, 3) := dk_180 0 22 (dk_at dksJ6_shift_0 18 rfl rfl)
theorem dJ6_shift_21 : decode cJ6_shift 21 = .ok (.ishl, 1) := dk_120 (dk_at dksJ6_shift_0 21 rfl rfl)
theorem dJ6_shift_22 : decode cJ6_shift 22 = .ok (.aload_n 0, 1) := dk_42 (dk_at dksJ6_shift_0 22 rfl rfl)
theorem dJ6_shift_23 : decode cJ6_shift 23 = .ok (.getfield 79, 3) := dk_180 0 79 (dk_at dksJ6_shift_1 0 rfl rfl)
theorem dJ6_shift_26 : decode cJ6_shift 26 = .ok (.iload_n 1, 1) := dk_27 (dk_at dksJ6_shift_1 3 rfl rfl)
theorem dJ6_shift_27 : decode cJ6_shift 27 = .ok (.isub, 1) := dk_100 (dk_at dksJ6_shift_1 4 rfl rfl)
theorem dJ6_shift_28 : decode cJ6_shift 28 = .ok (.aload_n 0, 1) := dk_42 (dk_at dksJ6_shift_1 5 rfl rfl)
theorem dJ6_shift_29 : decode cJ6_shift 29 = .ok (.getfield 22, 3) := dk_180 0 22 (dk_at dksJ6_shift_1 6 rfl rfl)
theorem dJ6_shift_32 : decode cJ6_shift 32 = .ok (.ishl, 1) := dk_120 (dk_at dksJ6_shift_1 9 rfl rfl)
theorem dJ6_shift_33 : decode cJ6_shift 33 = .ok (.invokestatic 309, 3) := dk_184 1 53 (dk_at dksJ6_shift_1 10 rfl rfl)
theorem dJ6_shift_36 : decode cJ6_shift 36 = .ok (.return_, 1) := dk_177 (dk_at dksJ6_shift_1 13 rfl rfl)
def dkwJ6_insert_2 : List UInt8 := [42, 27, 44, 182, 0, 208, 42, 176]
abbrev dktJ6_insert_2 : List UInt8 := dkwJ6_insert_2 ++ []
def dkwJ6_insert_1 : List UInt8 := [180, 0, 79, 29, 96, 182, 0, 100, 42, 27, 29, 182, 1, 27, 42, 89, 180, 0, 79, 29, 96, 181, 0, 79]
abbrev dktJ6_insert_1 : List UInt8 := dkwJ6_insert_1 ++ dktJ6_insert_2
def dkwJ6_insert_0 : List UInt8 := [27, 42, 180, 0, 79, 184, 1, 59, 44, 199, 0, 6, 18, 230, 77, 44, 182, 0, 32, 62, 42, 42]
abbrev dktJ6_insert_0 : List UInt8 := dkwJ6_insert_0 ++ dktJ6_insert_1
theorem dksJ6_insert_0 : cJ6_insert.data.toList.drop 0 = dktJ6_insert_0 := by decide +kernel
theorem dksJ6_insert_1 : cJ6_insert.data.toList.drop 22 = dktJ6_insert_1 := dk_seg dksJ6_insert_0 22 rfl rfl
theorem dksJ6_insert_2 : cJ6_insert.data.toList.drop 46 = dktJ6_insert_2 := dk_seg dksJ6_insert_1 24 rfl rfl
theorem dJ6_insert_0 : decode cJ6_insert 0 = .ok (.iload_n 1, 1) := dk_27 (dk_at dksJ6_insert_0 0 rfl rfl)
theorem dJ6_insert_1 : decode cJ6_insert 1 = .ok (.aload_n 0, 1) := dk_42 (dk_at dksJ6_insert_0 1 rfl rfl)
theorem dJ6_insert_2 : decode cJ6_insert 2 = .ok (.getfield 79, 3) := dk_180 0 79 (dk_at dksJ6_insert_0 2 rfl rfl)
theorem dJ6_insert_5 : decode cJ6_insert 5 = .ok (.invokestatic 315, 3) := dk_184 1 59 (dk_at dksJ6_insert_0 5 rfl rfl)
theorem dJ6_insert_8 : decode cJ6_insert 8 = .ok (.aload_n 2, 1) := dk_44 (dk_at dksJ6_insert_0 8 rfl rfl)
theorem dJ6_insert_9 : decode cJ6_insert 9 = .ok (.ifnonnull 6, 3) := dk_199 0 6 (dk_at dksJ6_insert_0 9 rfl rfl)
theorem dJ6_insert_12 : decode cJ6_insert 12 = .ok (.ldc 230, 2) := dk_18 230 (dk_at dksJ6_insert_0 12 rfl rfl)
theorem dJ6_insert_14 : decode cJ6_insert 14 = .ok (.astore_n 2, 1) := dk_77 (dk_at dksJ6_insert_0 14 rfl rfl)
theorem dJ6_insert_15 : decode cJ6_insert 15 = .ok (.aload_n 2, 1) := dk_44 (dk_at dksJ6_insert_0 15 rfl rfl)
theorem dJ6_insert_16 : decode cJ6_insert 16 = .ok (.invokevirtual 32, 3) := dk_182 0 32 (dk_at dksJ6_insert_0 16 rfl rfl)
theorem dJ6_insert_19 : decode cJ6_insert 19 = .ok (.istore_n 3, 1) := dk_62 (dk_at dksJ6_insert_0 19 rfl rfl)
theorem dJ6_insert_20 : decode cJ6_insert 20 = .ok (.aload_n 0, 1) := dk_42 (dk_at dksJ6_insert_0 20 rfl rfl)
theorem dJ6_insert_21 : decode cJ6_insert 21 = .ok (.aload_n 0, 1) := dk_42 (dk_at dksJ6_insert_0 21 rfl rfl)
theorem dJ6_insert_22 : decode cJ6_insert 22 = .ok (.getfield 79, 3) := dk_180 0 79 (dk_at dksJ6_insert_1 0 rfl rfl)
theorem dJ6_insert_25 : decode cJ6_insert 25 = .ok (.iload_n 3, 1) := dk_29 (dk_at dksJ6_insert_1 3 rfl rfl)
theorem dJ6_insert_26 : decode cJ6_insert 26 = .ok (.iadd, 1) := dk_96 (dk_at dksJ6_insert_1 4 rfl rfl)
theorem dJ6_insert_27 : decode cJ6_insert 27 = .ok (.invokevirtual 100, 3) := dk_182 0 100 (dk_at dksJ6_insert_1 5 rfl rfl)
theorem dJ6_insert_30 : decode cJ6_insert 30 = .ok (.aload_n 0, 1) := dk_42 (dk_at dksJ6_insert_1 8 rfl rfl)
theorem dJ6_insert_31 : decode cJ6_insert 31 = .ok (.iload_n 1, 1) := dk_27 (dk_at dksJ6_insert_1 9 rfl rfl)
theorem dJ6_insert_32 : decode cJ6_insert 32 = .ok (.iload_n 3, 1) := dk_29 (dk_at dksJ6_insert_1 10 rfl rfl)
theorem dJ6_insert_33 : decode cJ6_insert 33 = .ok (.invokevirtual 283, 3) := dk_182 1 27 (dk_at dksJ6_insert_1 11 rfl rfl)
theorem dJ6_insert_36 : decode cJ6_insert 36 = .ok (.aload_n 0, 1) := dk_42 (dk_at dksJ6_insert_1 14 rfl rfl)
theorem dJ6_insert_37 : decode cJ6_insert 37 = .ok (.dup, 1) := dk_89 (dk_at dksJ6_insert_1 15 rfl rfl)
theorem dJ6_insert_38 : decode cJ6_insert 38 = .ok (.getfield 79, 3) := dk_180 0 79 (dk_at dksJ6_insert_1 16 rfl rfl)
theorem dJ6_insert_41 : decode cJ6_insert 41 = .ok (.iload_n 3, 1) := dk_29 (dk_at dksJ6_insert_1 19 rfl rfl)
theorem dJ6_insert_42 : decode cJ6_insert 42 = .ok (.iadd, 1) := dk_96 (dk_at dksJ6_insert_1 20 rfl rfl)
theorem dJ6_insert_43 : decode cJ6_insert 43 = .ok (.putfield 79, 3) := dk_181 0 79 (dk_at dksJ6_insert_1 21 rfl rfl)
theorem dJ6_insert_46 : decode cJ6_insert 46 = .ok (.aload_n 0, 1) := dk_42 (dk_at dksJ6_insert_2 0 rfl rfl)
theorem dJ6_insert_47 : decode cJ6_insert 47 = .ok (.iload_n 1, 1) := dk_27 (dk_at dksJ6_insert_2 1 rfl rfl)
theorem dJ6_insert_48 : decode cJ6_insert 48 = .ok (.aload_n 2, 1) := dk_44 (dk_at dksJ6_insert_2 2 rfl rfl)
theorem dJ6_insert_49 : decode cJ6_insert 49 = .ok (.invokevirtual 208, 3) := dk_182 0 208 (dk_at dksJ6_insert_2 3 rfl rfl)
theorem dJ6_insert_52 : decode cJ6_insert 52 = .ok (.aload_n 0, 1) := dk_42 (dk_at dksJ6_insert_2 6 rfl rfl)
theorem dJ6_insert_53 : decode cJ6_insert 53 = .ok (.areturn, 1) := dk_176 (dk_at dksJ6_insert_2 7 rfl rfl)
def dkwJ7_insert_0 : List UInt8 := [42, 27, 44, 183, 0, 86, 87, 42, 176]
abbrev dktJ7_insert_0 : List UInt8 := dkwJ7_insert_0 ++ []
theorem dksJ7_insert_0 : cJ7_insert.data.toList.drop 0 = dktJ7_insert_0 := by decide +kernel
theorem dJ7_insert_0 : decode cJ7_insert 0 = .ok (.aload_n 0, 1) := dk_42 (dk_at dksJ7_insert_0 0 rfl rfl)
theorem dJ7_insert_1 : decode cJ7_insert 1 = .ok (.iload_n 1, 1) := dk_27 (dk_at dksJ7_insert_0 1 rfl rfl)
theorem dJ7_insert_2 : decode cJ7_insert 2 = .ok (.aload_n 2, 1) := dk_44 (dk_at dksJ7_insert_0 2 rfl rfl)
theorem dJ7_insert_3 : decode cJ7_insert 3 = .ok (.invokespecial 86, 3) := dk_183 0 86 (dk_at dksJ7_insert_0 3 rfl rfl)
theorem dJ7_insert_6 : decode cJ7_insert 6 = .ok (.pop, 1) := dk_87 (dk_at dksJ7_insert_0 6 rfl rfl)
theorem dJ7_insert_7 : decode cJ7_insert 7 = .ok (.aload_n 0, 1) := dk_42 (dk_at dksJ7_insert_0 7 rfl rfl)
theorem dJ7_insert_8 : decode cJ7_insert 8 = .ok (.areturn, 1) := dk_176 (dk_at dksJ7_insert_0 8 rfl rfl)
def dkwJ6_deleteCharAt_1 : List UInt8 := [181, 0, 79, 42, 4, 181, 0, 73, 42, 176]
abbrev dktJ6_deleteCharAt_1 : List UInt8 := dkwJ6_deleteCharAt_1 ++ []
def dkwJ6_deleteCharAt_0 : List UInt8 := [27, 42, 180, 0, 79, 184, 0, 144, 42, 27, 4, 96, 2, 182, 1, 27, 42, 89, 180, 0, 79, 4, 100]
abbrev dktJ6_deleteCharAt_0 : List UInt8 := dkwJ6_deleteCharAt_0 ++ dktJ6_deleteCharAt_1
theorem dksJ6_deleteCharAt_0 : cJ6_deleteCharAt.data.toList.drop 0 = dktJ6_deleteCharAt_0 := by decide +kernel
theorem dksJ6_deleteCharAt_1 : cJ6_deleteCharAt.data.toList.drop 23 = dktJ6_deleteCharAt_1 := dk_seg dksJ6_deleteCharAt_0 23 rfl rfl
theorem dJ6_deleteCharAt_0 : decode cJ6_deleteCharAt 0 = .ok (.iload_n 1, 1) := dk_27 (dk_at dksJ6_deleteCharAt_0 0 rfl rfl)
theorem dJ6_deleteCharAt_1 : decode cJ6_deleteCharAt 1 = .ok (.aload_n 0, 1) := dk_42 (dk_at dksJ6_deleteCharAt_0 1 rfl rfl)
theorem dJ6_deleteCharAt_2 : decode cJ6_deleteCharAt 2 = .ok (.getfield 79, 3) := dk_180 0 79 (dk_at dksJ6_deleteCharAt_0 2 rfl rfl)
theorem dJ6_deleteCharAt_5 : decode cJ6_deleteCharAt 5 = .ok (.invokestatic 144, 3) := dk_184 0 144 (dk_at dksJ6_deleteCharAt_0 5 rfl rfl)
theorem dJ6_deleteCharAt_8 : decode cJ6_deleteCharAt 8 = .ok (.aload_n 0, 1) := dk_42 (dk_at dksJ6_deleteCharAt_0 8 rfl rfl)
theorem dJ6_deleteCharAt_9 : decode cJ6_deleteCharAt 9 = .ok (.iload_n 1, 1) := dk_27 (dk_at dksJ6_deleteCharAt_0 9 rfl rfl)
theorem dJ6_deleteCharAt_10 : decode cJ6_deleteCharAt 10 = .ok (.iconst 1, 1) := dk_4 (dk_at dksJ6_deleteCharAt_0 10 rfl rfl)
theorem dJ6_deleteCharAt_11 : decode cJ6_deleteCharAt 11 = .ok (.iadd, 1) := dk_96 (dk_at dksJ6_deleteCharAt_0 11 rfl rfl)
theorem dJ6_deleteCharAt_12 : decode cJ6_deleteCharAt 12 = .ok (.iconst (-1), 1) := dk_2 (dk_at dksJ6_deleteCharAt_0 12 rfl rfl)
theorem dJ6_deleteCharAt_13 : decode cJ6_deleteCharAt 13 = .ok (.invokevirtual 283, 3) := dk_182 1 27 (dk_at dksJ6_deleteCharAt_0 13 rfl rfl)
theorem dJ6_deleteCharAt_16 : decode cJ6_deleteCharAt 16 = .ok (.aload_n 0, 1) := dk_42 (dk_at dksJ6_deleteCharAt_0 16 rfl rfl)
theorem dJ6_deleteCharAt_17 : decode cJ6_deleteCharAt 17 = .ok (.dup, 1) := dk_89 (dk_at dksJ6_deleteCharAt_0 17 rfl rfl)
theorem dJ6_deleteCharAt_18 : decode cJ6_deleteCharAt 18 = .ok (.getfield 79, 3) := dk_180 0 79 (dk_at dksJ6_deleteCharAt_0 18 rfl rfl)
theorem dJ6_deleteCharAt_21 : decode cJ6_deleteCharAt 21 = .ok (.iconst 1, 1) := dk_4 (dk_at dksJ6_deleteCharAt_0 21 rfl rfl)
theorem dJ6_deleteCharAt_22 : decode cJ6_deleteCharAt 22 = .ok (.isub, 1) := dk_100 (dk_at dksJ6_deleteCharAt_0 22 rfl rfl)
theorem dJ6_deleteCharAt_23 : decode cJ6_deleteCharAt 23 = .ok (.putfield 79, 3) := dk_181 0 79 (dk_at dksJ6_deleteCharAt_1 0 rfl rfl)
theorem dJ6_deleteCharAt_26 : decode cJ6_deleteCharAt 26 = .ok (.aload_n 0, 1) := dk_42 (dk_at dksJ6_deleteCharAt_1 3 rfl rfl)
theorem dJ6_deleteCharAt_27 : decode cJ6_deleteCharAt 27 = .ok (.iconst 1, 1) := dk_4 (dk_at dksJ6_deleteCharAt_1 4 rfl rfl)
theorem dJ6_deleteCharAt_28 : decode cJ6_deleteCharAt 28 = .ok (.putfield 73, 3) := dk_181 0 73 (dk_at dksJ6_deleteCharAt_1 5 rfl rfl)
theorem dJ6_deleteCharAt_31 : decode cJ6_deleteCharAt 31 = .ok (.aload_n 0, 1) := dk_42 (dk_at dksJ6_deleteCharAt_1 8 rfl rfl)
theorem dJ6_deleteCharAt_32 : decode cJ6_deleteCharAt 32 = .ok (.areturn, 1) := dk_176 (dk_at dksJ6_deleteCharAt_1 9 rfl rfl)
def dkwJ7_deleteCharAt_0 : List UInt8 := [42, 27, 183, 0, 72, 87, 42, 176]
abbrev dktJ7_deleteCharAt_0 : List UInt8 := dkwJ7_deleteCharAt_0 ++ []
theorem dksJ7_deleteCharAt_0 : cJ7_deleteCharAt.data.toList.drop 0 = dktJ7_deleteCharAt_0 := by decide +kernel
theorem dJ7_deleteCharAt_0 : decode cJ7_deleteCharAt 0 = .ok (.aload_n 0, 1) := dk_42 (dk_at dksJ7_deleteCharAt_0 0 rfl rfl)
theorem dJ7_deleteCharAt_1 : decode cJ7_deleteCharAt 1 = .ok (.iload_n 1, 1) := dk_27 (dk_at dksJ7_deleteCharAt_0 1 rfl rfl)
theorem dJ7_deleteCharAt_2 : decode cJ7_deleteCharAt 2 = .ok (.invokespecial 72, 3) := dk_183 0 72 (dk_at dksJ7_deleteCharAt_0 2 rfl rfl)
theorem dJ7_deleteCharAt_5 : decode cJ7_deleteCharAt 5 = .ok (.pop, 1) := dk_87 (dk_at dksJ7_deleteCharAt_0 5 rfl rfl)
theorem dJ7_deleteCharAt_6 : decode cJ7_deleteCharAt 6 = .ok (.aload_n 0, 1) := dk_42 (dk_at dksJ7_deleteCharAt_0 6 rfl rfl)
theorem dJ7_deleteCharAt_7 : decode cJ7_deleteCharAt 7 = .ok (.areturn, 1) := dk_176 (dk_at dksJ7_deleteCharAt_0 7 rfl rfl)
def dkwJ6_reverse_3 : List UInt8 := [184, 1, 102, 42, 176]
abbrev dktJ6_reverse_3 : List UInt8 := dkwJ6_reverse_3 ++ []
def dkwJ6_reverse_2 : List UInt8 := [43, 21, 5, 51, 84, 43, 21, 5, 21, 6, 84, 132, 4, 255, 167, 255, 222, 167, 0, 8, 43, 28]
abbrev dktJ6_reverse_2 : List UInt8 := dkwJ6_reverse_2 ++ dktJ6_reverse_3
def dkwJ6_reverse_1 : List UInt8 := [4, 122, 54, 4, 21, 4, 155, 0, 35, 29, 21, 4, 100, 54, 5, 43, 21, 4, 51, 54, 6, 43, 21, 4]
abbrev dktJ6_reverse_1 : List UInt8 := dkwJ6_reverse_1 ++ dktJ6_reverse_2
def dkwJ6_reverse_0 : List UInt8 := [42, 180, 0, 15, 76, 42, 180, 0, 79, 61, 28, 4, 100, 62, 42, 182, 0, 83, 153, 0, 50, 29, 4, 100]
abbrev dktJ6_reverse_0 : List UInt8 := dkwJ6_reverse_0 ++ dktJ6_reverse_1
theorem dksJ6_reverse_0 : cJ6_reverse.data.toList.drop 0 = dktJ6_reverse_0 := by decide +kernel
theorem dksJ6_reverse_1 : cJ6_reverse.data.toList.drop 24 = dktJ6_reverse_1 := dk_seg dksJ6_reverse_0 24 rfl rfl
theorem dksJ6_reverse_2 : cJ6_reverse.data.toList.drop 48 = dktJ6_reverse_2 := dk_seg dksJ6_reverse_1 24 rfl rfl
theorem dksJ6_reverse_3 : cJ6_reverse.data.toList.drop 70 = dktJ6_reverse_3 := dk_seg dksJ6_reverse_2 22 rfl rfl
theorem dJ6_reverse_0 : decode cJ6_reverse 0 = .ok (.aload_n 0, 1) := dk_42 (dk_at dksJ6_reverse_0 0 rfl rfl)
theorem dJ6_reverse_1 : decode cJ6_reverse 1 = .ok (.getfield 15, 3) := dk_180 0 15 (dk_at dksJ6_reverse_0 1 rfl rfl)
theorem dJ6_reverse_4 : decode cJ6_reverse 4 = .ok (.astore_n 1, 1) := dk_76 (dk_at dksJ6_reverse_0 4 rfl rfl)
theorem dJ6_reverse_5 : decode cJ6_reverse 5 = .ok (.aload_n 0, 1) := dk_42 (dk_at dksJ6_reverse_0 5 rfl rfl)
theorem dJ6_reverse_6 : decode cJ6_reverse 6 = .ok (.getfield 79, 3) := dk_180 0 79 (dk_at dksJ6_reverse_0 6 rfl rfl)
theorem dJ6_reverse_9 : decode cJ6_reverse 9 = .ok (.istore_n 2, 1) := dk_61 (dk_at dksJ6_reverse_0 9 rfl rfl)
theorem dJ6_reverse_10 : decode cJ6_reverse 10 = .ok (.iload_n 2, 1) := dk_28 (dk_at dksJ6_reverse_0 10 rfl rfl)
theorem dJ6_reverse_11 : decode cJ6_reverse 11 = .ok (.iconst 1, 1) := dk_4 (dk_at dksJ6_reverse_0 11 rfl rfl)
theorem dJ6_reverse_12 : decode cJ6_reverse 12 = .ok (.isub, 1) := dk_100 (dk_at dksJ6_reverse_0 12 rfl rfl)
theorem dJ6_reverse_13 : decode cJ6_reverse 13 = .ok (.istore_n 3, 1) := dk_62 (dk_at dksJ6_reverse_0 13 rfl rfl)
theorem dJ6_reverse_14 : decode cJ6_reverse 14 = .ok (.aload_n 0, 1) := dk_42 (dk_at dksJ6_reverse_0 14 rfl rfl)
theorem dJ6_reverse_15 : decode cJ6_reverse 15 = .ok (.invokevirtual 83, 3) := dk_182 0 83 (dk_at dksJ6_reverse_0 15 rfl rfl)
theorem dJ6_reverse_18 : decode cJ6_reverse 18 = .ok (.ifCond .eq 50, 3) := dk_153 0 50 (dk_at dksJ6_reverse_0 18 rfl rfl)
theorem dJ6_reverse_21 : decode cJ6_reverse 21 = .ok (.iload_n 3, 1) := dk_29 (dk_at dksJ6_reverse_0 21 rfl rfl)
theorem dJ6_reverse_22 : decode cJ6_reverse 22 = .ok (.iconst 1, 1) := dk_4 (dk_at dksJ6_reverse_0 22 rfl rfl)
theorem dJ6_reverse_23 : decode cJ6_reverse 23 = .ok (.isub, 1) := dk_100 (dk_at dksJ6_reverse_0 23 rfl rfl)
theorem dJ6_reverse_24 : decode cJ6_reverse 24 = .ok (.iconst 1, 1) := dk_4 (dk_at dksJ6_reverse_1 0 rfl rfl)
theorem dJ6_reverse_25 : decode cJ6_reverse 25 = .ok (.ishr, 1) := dk_122 (dk_at dksJ6_reverse_1 1 rfl rfl)
theorem dJ6_reverse_26 : decode cJ6_reverse 26 = .ok (.istore 4, 2) := dk_54 4 (dk_at dksJ6_reverse_1 2 rfl rfl)
theorem dJ6_reverse_28 : decode cJ6_reverse 28 = .ok (.iload 4, 2) := dk_21 4 (dk_at dksJ6_reverse_1 4 rfl rfl)
theorem dJ6_reverse_30 : decode cJ6_reverse 30 = .ok (.ifCond .lt 35, 3) := dk_155 0 35 (dk_at dksJ6_reverse_1 6 rfl rfl)
theorem dJ6_reverse_33 : decode cJ6_reverse 33 = .ok (.iload_n 3, 1) := dk_29 (dk_at dksJ6_reverse_1 9 rfl rfl)
theorem dJ6_reverse_34 : decode cJ6_reverse 34 = .ok (.iload 4, 2) := dk_21 4 (dk_at dksJ6_reverse_1 10 rfl rfl)
theorem dJ6_reverse_36 : decode cJ6_reverse 36 = .ok (.isub, 1) := dk_100 (dk_at dksJ6_reverse_1 12 rfl rfl)
theorem dJ6_reverse_37 : decode cJ6_reverse 37 = .ok (.istore 5, 2) := dk_54 5 (dk_at dksJ6_reverse_1 13 rfl rfl)
theorem dJ6_reverse_39 : decode cJ6_reverse 39 = .ok (.aload_n 1, 1) := dk_43 (dk_at dksJ6_reverse_1 15 rfl rfl)
theorem dJ6_reverse_40 : decode cJ6_reverse 40 = .ok (.iload 4, 2) := dk_21 4 (dk_at dksJ6_reverse_1 16 rfl rfl)
theorem dJ6_reverse_42 : decode cJ6_reverse 42 = .ok (.baload, 1) := dk_51 (dk_at dksJ6_reverse_1 18 rfl rfl)
theorem dJ6_reverse_43 : decode cJ6_reverse 43 = .ok (.istore 6, 2) := dk_54 6 (dk_at dksJ6_reverse_1 19 rfl rfl)
theorem dJ6_reverse_45 : decode cJ6_reverse 45 = .ok (.aload_n 1, 1) := dk_43 (dk_at dksJ6_reverse_1 21 rfl rfl)
theorem dJ6_reverse_46 : decode cJ6_reverse 46 = .ok (.iload 4, 2) := dk_21 4 (dk_at dksJ6_reverse_1 22 rfl rfl)
theorem dJ6_reverse_48 : decode cJ6_reverse 48 = .ok (.aload_n 1, 1) := dk_43 (dk_at dksJ6_reverse_2 0 rfl rfl)
theorem dJ6_reverse_49 : decode cJ6_reverse 49 = .ok (.iload 5, 2) := dk_21 5 (dk_at dksJ6_reverse_2 1 rfl rfl)
theorem dJ6_reverse_51 : decode cJ6_reverse 51 = .ok (.baload, 1) := dk_51 (dk_at dksJ6_reverse_2 3 rfl rfl)
theorem dJ6_reverse_52 : decode cJ6_reverse 52 = .ok (.bastore, 1) := dk_84 (dk_at dksJ6_reverse_2 4 rfl rfl)
theorem dJ6_reverse_53 : decode cJ6_reverse 53 = .ok (.aload_n 1, 1) := dk_43 (dk_at dksJ6_reverse_2 5 rfl rfl)
theorem dJ6_reverse_54 : decode cJ6_reverse 54 = .ok (.iload 5, 2) := dk_21 5 (dk_at dksJ6_reverse_2 6 rfl rfl)
theorem dJ6_reverse_56 : decode cJ6_reverse 56 = .ok (.iload 6, 2) := dk_21 6 (dk_at dksJ6_reverse_2 8 rfl rfl)
theorem dJ6_reverse_58 : decode cJ6_reverse 58 = .ok (.bastore, 1) := dk_84 (dk_at dksJ6_reverse_2 10 rfl rfl)
theorem dJ6_reverse_59 : decode cJ6_reverse 59 = .ok (.iinc 4 (-1), 3) := dk_132 4 255 (dk_at dksJ6_reverse_2 11 rfl rfl)
theorem dJ6_reverse_62 : decode cJ6_reverse 62 = .ok (.goto (-34), 3) := dk_167 255 222 (dk_at dksJ6_reverse_2 14 rfl rfl)
theorem dJ6_reverse_65 : decode cJ6_reverse 65 = .ok (.goto 8, 3) := dk_167 0 8 (dk_at dksJ6_reverse_2 17 rfl rfl)
theorem dJ6_reverse_68 : decode cJ6_reverse 68 = .ok (.aload_n 1, 1) := dk_43 (dk_at dksJ6_reverse_2 20 rfl rfl)
theorem dJ6_reverse_69 : decode cJ6_reverse 69 = .ok (.iload_n 2, 1) := dk_28 (dk_at dksJ6_reverse_2 21 rfl rfl)
theorem dJ6_reverse_70 : decode cJ6_reverse 70 = .ok (.invokestatic 358, 3) := dk_184 1 102 (dk_at dksJ6_reverse_3 0 rfl rfl)
theorem dJ6_reverse_73 : decode cJ6_reverse 73 = .ok (.aload_n 0, 1) := dk_42 (dk_at dksJ6_reverse_3 3 rfl rfl)
theorem dJ6_reverse_74 : decode cJ6_reverse 74 = .ok (.areturn, 1) := dk_176 (dk_at dksJ6_reverse_3 4 rfl rfl)
theorem yd_J5_checkOffset : yJ5_checkOffset.cls ≠ "java/lang/invoke/MethodHandle" ∧ yJ5_checkOffset.cls ≠ "java/lang/invoke/VarHandle" ∧ (parseMethodDescriptor yJ5_checkOffset.desc).map (fun d => d.parameters.length) = some 2 := by decide +kernel
theorem yd_J5_init : yJ5_init.cls ≠ "java/lang/invoke/MethodHandle" ∧ yJ5_init.cls ≠ "java/lang/invoke/VarHandle" ∧ (parseMethodDescriptor yJ5_init.desc).map (fun d => d.parameters.length) = some 1 := by decide +kernel
theorem yd_J5_init_2 : yJ5_init_2.cls ≠ "java/lang/invoke/MethodHandle" ∧ yJ5_init_2.cls ≠ "java/lang/invoke/VarHandle" ∧ (parseMethodDescriptor yJ5_init_2.desc).map (fun d => d.parameters.length) = some 2 := by decide +kernel
theorem ydu_J6_deleteCharAt : yJ6_deleteCharAt.name ≠ "<init>" ∧ (parseMethodDescriptor yJ6_deleteCharAt.desc).map (fun d => d.parameters.length) = some 1 := by decide +kernel
theorem yd_J6_init_2 : yJ6_init_2.cls ≠ "java/lang/invoke/MethodHandle" ∧ yJ6_init_2.cls ≠ "java/lang/invoke/VarHandle" ∧ (parseMethodDescriptor yJ6_init_2.desc).map (fun d => d.parameters.length) = some 1 := by decide +kernel
theorem ydu_J6_insert : yJ6_insert.name ≠ "<init>" ∧ (parseMethodDescriptor yJ6_insert.desc).map (fun d => d.parameters.length) = some 2 := by decide +kernel
/-! ### builders made, told, turned -/
theorem va_cpy_self (f : Nat → Int32) (sp dp k : Nat) (j : Nat) : va_cpy f f sp dp k j = if dp ≤ j ∧ j < dp + k then f (sp + (j - dp)) else f j := rfl
theorem fitB_cpy {n : Nat} {f : Nat → Int32} (h : fitB n f) {sp dp k : Nat} (hk : sp + k ≤ n) : fitB n (va_cpy f f sp dp k) := by
  intro i hi
  rw [va_cpy_self]
  split
  · exact h _ (by omega)
  · exact h i hi
theorem getD_tk (T : List Nat) (p i : Nat) (h : i < p) : (T.take p).getD i 0 = T.getD i 0 := by
  rw [List.getD_eq_getElem?_getD, List.getElem?_take_of_lt h, ← List.getD_eq_getElem?_getD]
theorem getD_dp (T : List Nat) (p i : Nat) : (T.drop p).getD i 0 = T.getD (p + i) 0 := by
  rw [List.getD_eq_getElem?_getD, List.getElem?_drop, ← List.getD_eq_getElem?_getD]
/-- a text put in at a place -/
def insT (T : List Nat) (p : Nat) (X : List Nat) : List Nat := T.take p ++ (X ++ T.drop p)
theorem insT_len {T X : List Nat} {p : Nat} (h : p ≤ T.length) : (insT T p X).length = T.length + X.length := by
  unfold insT
  simp
  omega
theorem insT_at {T X : List Nat} {p : Nat} (h : p ≤ T.length) {f : Nat → Int32} (hf : ∀ i, i < T.length → f i = nI (T.getD i 0)) (i : Nat) (hi : i < (insT T p X).length) : ovl (va_cpy f f p (p + X.length) (T.length - p)) p X i = nI ((insT T p X).getD i 0) := by
  rw [insT_len h] at hi
  unfold insT
  rw [getD_ap, List.length_take, Nat.min_eq_left h]
  unfold ovl
  split
  · rename_i q
    rw [if_neg (by omega), getD_ap, if_pos (by omega)]
  · rename_i q
    rw [va_cpy_self]
    split
    · rename_i r
      rw [if_neg (by omega), getD_ap, if_neg (by omega), getD_dp, hf _ (by omega)]
      congr 2
      omega
    · rename_i r
      rw [if_pos (by omega), getD_tk _ _ _ (by omega)]
      exact hf i (by omega)
theorem insT_c {T X : List Nat} {p : Nat} (h : ∀ c ∈ T, c < 128) (h2 : ∀ c ∈ X, c < 128) : ∀ c ∈ insT T p X, c < 128 := by
  unfold insT
  exact app128 (fun c hc => h c (List.mem_of_mem_take hc)) (app128 h2 (fun c hc => h c (List.mem_of_mem_drop hc)))
/-- a text without the letter at a place -/
def delT (T : List Nat) (p : Nat) : List Nat := T.take p ++ T.drop (p + 1)
theorem delT_len {T : List Nat} {p : Nat} (h : p < T.length) : (delT T p).length = T.length - 1 := by
  unfold delT
  simp
  omega
theorem delT_at {T : List Nat} {p : Nat} (h : p < T.length) {f : Nat → Int32} (hf : ∀ i, i < T.length → f i = nI (T.getD i 0)) (i : Nat) (hi : i < (delT T p).length) : va_cpy f f (p + 1) p (T.length - (p + 1)) i = nI ((delT T p).getD i 0) := by
  rw [delT_len h] at hi
  unfold delT
  rw [getD_ap, List.length_take, Nat.min_eq_left (by omega), va_cpy_self]
  split
  · rename_i r
    rw [if_neg (by omega), getD_dp, hf _ (by omega)]
  · rename_i r
    rw [if_pos (by omega), getD_tk _ _ _ (by omega)]
    exact hf i (by omega)
theorem delT_c {T : List Nat} {p : Nat} (h : ∀ c ∈ T, c < 128) : ∀ c ∈ delT T p, c < 128 := by
  unfold delT
  exact app128 (fun c hc => h c (List.mem_of_mem_take hc)) (fun c hc => h c (List.mem_of_mem_drop hc))
/-- bytes turned round within L, from j on and back from its mirror -/
def rvb (f : Nat → Int32) (L j : Nat) : Nat → Int32 := fun i => if j ≤ i ∧ i < L - j then f (L - 1 - i) else f i
theorem rvb_0 (f : Nat → Int32) (L : Nat) : ∀ i, rvb f L (L / 2) i = f i := by
  intro i
  unfold rvb
  split
  · rename_i q
    congr 1
    omega
  · rfl
theorem toi8 {n i : Nat} {f : Nat → Int32} (h : fitB n f) (hi : i < n) : (f i).toInt8.toInt32 = f i := by
  have e : narrow .byte (.int (f i)) = .int (f i) := narrow_of_fits (h i hi)
  have e2 : narrow .byte (.int (f i)) = .int ((f i).toInt8.toInt32) := rfl
  exact Value.int.inj (e2.symm.trans e)
theorem rvb_fit {n L : Nat} {f : Nat → Int32} (h : fitB n f) (hL : L ≤ n) (j : Nat) : fitB n (rvb f L j) := by
  intro i hi
  show fits .byte (.int (if _ then _ else _)) = true
  split
  · exact h _ (by omega)
  · exact h i hi
theorem rvb_step {n L j : Nat} {f : Nat → Int32} (h : fitB n f) (hL : L ≤ n) (hj : 1 ≤ j) (hj2 : j ≤ L / 2) : upd (upd (rvb f L j) (j - 1) ((rvb f L j (L - j)).toInt8.toInt32)) (L - j) ((rvb f L j (j - 1)).toInt8.toInt32) = rvb f L (j - 1) := by
  rw [toi8 (rvb_fit h hL j) (by omega), toi8 (rvb_fit h hL j) (by omega)]
  funext i
  unfold upd rvb
  by_cases h1 : i = L - j
  · subst h1
    rw [if_pos rfl, if_neg (by omega), if_pos (by omega)]
    congr 1
    omega
  · rw [if_neg h1]
    by_cases h2 : i = j - 1
    · subst h2
      rw [if_pos rfl, if_neg (by omega), if_pos (by omega)]
      congr 1
      omega
    · rw [if_neg h2]
      by_cases h3 : j ≤ i ∧ i < L - j
      · rw [if_pos h3, if_pos (by omega)]
      · rw [if_neg h3, if_neg (by omega)]
theorem rvb_end {f : Nat → Int32} {T : List Nat} (hf : ∀ i, i < T.length → f i = nI (T.getD i 0)) : ∀ i, i < T.reverse.length → rvb f T.length 0 i = nI (T.reverse.getD i 0) := by
  intro i hi
  rw [List.length_reverse] at hi
  unfold rvb
  rw [if_pos (by omega), hf _ (by omega), List.getD_eq_getElem?_getD, List.getD_eq_getElem?_getD, List.getElem?_reverse hi]

set_option maxHeartbeats 1000000 in
theorem m_sbInit6 (l : Launch) (z : State) (H0 : Heap) (a : Nat) (n : Nat) (k : Nat → Nat) (fv : Nat → Value) (hn : n < 1000000) (hO : gO z true RJ7 TJ7 4 H0 a [.null, .int 0, .int 0, .int 0]) (hs : sS z k fv (fun q => q = a ∨ H0.size ≤ q) H0) : Met l yJ6_init_2 (ws_ yJ6_init_2 cJ6_init_2 2 (none)) { frames := 1, cells := 1, slots := n, locals := 12 } (gPc z H0 [.ref a, .int (nI n)]) (gRv (fun q => q = a ∨ H0.size ≤ q) H0 (fun H1 => ∃ b1, H0.size ≤ b1 ∧ gB z H1 a b1 n [])) 1 n (fun q => q = a ∨ H0.size ≤ q) := by
  refine g_start (by decide +kernel) (Nat.le_of_ble_eq_true rfl) ?_
  intro p e s m below meth c ls hx hb hr hlocks hml hown hname hts hwm hl
  have hown : s.vm.findClass "java/lang/AbstractStringBuilder" = some m.cls := hown
  have hal : z.vm.Alike s.vm := hwm.alike
  have hCF : CallFix p m c cJ6_init_2 2 s [.ref a, .int (nI n)].toArray lw_all "java/lang/AbstractStringBuilder" := ⟨hx, hb, hml, hown, hts⟩
  have hl : lv_has ls 2 [(0, .ref a), (1, .int (nI n))] := hl
  have hS : va_S (fun q => q = a ∨ H0.size ≤ q) H0 H0 [] := va_S.rf
  have lt_a := hO.lt
  refine lv_aload_n hx hb dJ6_init_2_0 rfl (lv_at hl 0 rfl) ?_
  refine W.objInit hx hb hown (hts _ q217) (hts _ q110) (hts _ q111) rfl (by rw [hml]; exact hl.1) rfl dJ6_init_2_1 (Nat.le_of_ble_eq_true rfl) (Nat.le_of_ble_eq_true rfl) ?_
  refine W.eq (g2 := F0 m 4 ls []) rfl ?_
  refine gw_gets  hx hb hal hs.1 hS hown (hts _ q294) (fun _ h9 => h9) dJ6_init_2_4 ?_
  refine lv_if_eq (tgt := 25) hx hb dJ6_init_2_7 (by decide) (fun c_7 => absurd c_7 (by decide)) (fun c_7 => ?_)
  refine lv_aload_n hx hb dJ6_init_2_10 rfl (lv_at hl 0 rfl) ?_
  refine lv_iload_n hx hb dJ6_init_2_11 rfl (lv_at hl 1 rfl) ?_
  refine gw_newa (atype := .byte) (ty := .byte) (N' := n) hx hb (hts _ q167) rfl hal hS (rfl) (by omega) (by simp [componentBytes]; omega) (by first | omega | (dsimp only; omega)) (by first | omega | (dsimp only; omega)) dJ6_init_2_12 (fun q_1 H_2 eq_1 zq_1 hgx h_q_1 hS => ?_)
  have hO := hO.x hgx
  have h_q_1 : gI z true .byte H_2 q_1 n (fun _ => 0) := h_q_1
  refine gw_put (C := RJ7) (T := TJ7) (N := 4) (ty := (.array .byte)) (v := .ref q_1) hx hb hts in_J7 tyJ7 tyJ7_ok nmJ7 (hts _ q192) hown hal hO hS (by have hsz := hS.1; (try dsimp only [gfr]) <;> omega) 0 (by decide) (hts _ q354) (fun _ h9 => h9) rfl (by decide +kernel) (rfl) (rfl) (Nat.le_of_ble_eq_true rfl) dJ6_init_2_14 (fun H_3 locs h_new hch hS => ?_)
  have h_q_1 := h_q_1.ch hch (by omega)
  have sz_H_3 := hch.1
  clear hch
  have hO : gO z true RJ7 TJ7 4 H_3 a [.ref q_1, .int 0, .int 0, .int 0] := h_new
  refine lv_aload_n hx hb dJ6_init_2_17 rfl (lv_at hl 0 rfl) ?_
  refine lv_iconst (v := 0) hx hb dJ6_init_2_18 (by decide) ?_
  refine gw_put (C := RJ7) (T := TJ7) (N := 4) (ty := .byte) (v := .int 0) hx hb hts in_J7 tyJ7 tyJ7_ok nmJ7 (hts _ q192) hown hal hO hS (by have hsz := hS.1; (try dsimp only [gfr]) <;> omega) 1 (by decide) (hts _ q355) (fun _ h9 => h9) rfl (by decide +kernel) (rfl) (rfl) (Nat.le_of_ble_eq_true rfl) dJ6_init_2_19 (fun H_4 locs h_new hch hS => ?_)
  have h_q_1 := h_q_1.ch hch (by omega)
  have sz_H_4 := hch.1
  clear hch
  have hO : gO z true RJ7 TJ7 4 H_4 a [.ref q_1, .int 0, .int 0, .int 0] := h_new
  refine lv_goto (tgt := 38) hx hb dJ6_init_2_22 (by decide) ?_
  refine g_vret hx hb hr hlocks hS (by first | omega | (dsimp only; omega)) (by first | omega | (dsimp only; omega)) ?_ dJ6_init_2_38
  exact ⟨q_1, by omega, 0, _, hO, h_q_1, fun i hi => by simp at hi, fun i hi => fits0, Nat.zero_le _, hn, fun c hc => by simp at hc⟩
set_option maxHeartbeats 1000000 in
theorem m_sbInitN (l : Launch) (z : State) (H0 : Heap) (a : Nat) (n : Nat) (k : Nat → Nat) (fv : Nat → Value) (hn : n < 1000000) (hO : gO z true RJ7 TJ7 4 H0 a [.null, .int 0, .int 0, .int 0]) (hs : sS z k fv (fun q => q = a ∨ H0.size ≤ q) H0) : Met l yJ7_init_3 (ws_ yJ7_init_3 cJ7_init_3 2 (none)) { frames := 2, cells := 1, slots := n, locals := 33 } (gPc z H0 [.ref a, .int (nI n)]) (gRv (fun q => q = a ∨ H0.size ≤ q) H0 (fun H1 => ∃ b1, H0.size ≤ b1 ∧ gB z H1 a b1 n [])) 1 n (fun q => q = a ∨ H0.size ≤ q) := by
  refine g_start (by decide +kernel) (Nat.le_of_ble_eq_true rfl) ?_
  intro p e s m below meth c ls hx hb hr hlocks hml hown hname hts hwm hl
  have hown : s.vm.findClass "java/lang/StringBuilder" = some m.cls := hown
  have hal : z.vm.Alike s.vm := hwm.alike
  have hCF : CallFix p m c cJ7_init_3 2 s [.ref a, .int (nI n)].toArray lw_all "java/lang/StringBuilder" := ⟨hx, hb, hml, hown, hts⟩
  have hl : lv_has ls 2 [(0, .ref a), (1, .int (nI n))] := hl
  have hS : va_S (fun q => q = a ∨ H0.size ≤ q) H0 H0 [] := va_S.rf
  have lt_a := hO.lt
  refine lv_aload_n hx hb dJ7_init_3_0 rfl (lv_at hl 0 rfl) ?_
  refine lv_iload_n hx hb dJ7_init_3_1 rfl (lv_at hl 1 rfl) ?_
  refine gcI1_v hCF hwm hl.1 (m_sbInit6 l z H0 a n k fv hn hO hs ) q497 q498 q66 q499 rfl yd_J6_init_2 hS (fun q h => by have hsz := hS.1; (try dsimp only [gfr] at h ⊢) <;> omega) ⟨Nat.le_of_ble_eq_true rfl, Nat.le_of_ble_eq_true rfl⟩ ⟨by first | omega | (dsimp only; omega), by first | omega | (dsimp only; omega)⟩ (Nat.le_of_ble_eq_true rfl) dJ7_init_3_2 (fun H_1 locs hp hex hS => ?_)
  have sz_H_1 : H0.size ≤ H_1.size := hex.1
  have hN := hp
  refine g_vret hx hb hr hlocks hS (by first | omega | (dsimp only; omega)) (by first | omega | (dsimp only; omega)) ?_ dJ7_init_3_5
  exact hN
set_option maxHeartbeats 1000000 in
theorem m_sbInit (l : Launch) (z : State) (H0 : Heap) (a : Nat)  (k : Nat → Nat) (fv : Nat → Value) (hO : gO z true RJ7 TJ7 4 H0 a [.null, .int 0, .int 0, .int 0]) (hs : sS z k fv (fun q => q = a ∨ H0.size ≤ q) H0) : Met l yJ7_init_2 (ws_ yJ7_init_2 cJ7_init_2 1 (none)) { frames := 2, cells := 1, slots := 16, locals := 33 } (gPc z H0 [.ref a]) (gRv (fun q => q = a ∨ H0.size ≤ q) H0 (fun H1 => ∃ b1, H0.size ≤ b1 ∧ gB z H1 a b1 16 [])) 1 16 (fun q => q = a ∨ H0.size ≤ q) := by
  refine g_start (by decide +kernel) (Nat.le_of_ble_eq_true rfl) ?_
  intro p e s m below meth c ls hx hb hr hlocks hml hown hname hts hwm hl
  have hown : s.vm.findClass "java/lang/StringBuilder" = some m.cls := hown
  have hal : z.vm.Alike s.vm := hwm.alike
  have hCF : CallFix p m c cJ7_init_2 1 s [.ref a].toArray lw_all "java/lang/StringBuilder" := ⟨hx, hb, hml, hown, hts⟩
  have hl : lv_has ls 1 [(0, .ref a)] := hl
  have hS : va_S (fun q => q = a ∨ H0.size ≤ q) H0 H0 [] := va_S.rf
  have lt_a := hO.lt
  refine lv_aload_n hx hb dJ7_init_2_0 rfl (lv_at hl 0 rfl) ?_
  refine lv_bipush (v := 16) hx hb dJ7_init_2_1 (by decide) ?_
  refine gcI1_v hCF hwm hl.1 (m_sbInit6 l z H0 a 16 k fv (by decide) hO hs ) q497 q498 q66 q499 rfl yd_J6_init_2 hS (fun q h => by have hsz := hS.1; (try dsimp only [gfr] at h ⊢) <;> omega) ⟨Nat.le_of_ble_eq_true rfl, Nat.le_of_ble_eq_true rfl⟩ ⟨by first | omega | (dsimp only; omega), by first | omega | (dsimp only; omega)⟩ (Nat.le_of_ble_eq_true rfl) dJ7_init_2_3 (fun H_1 locs hp hex hS => ?_)
  have sz_H_1 : H0.size ≤ H_1.size := hex.1
  have hN := hp
  refine g_vret hx hb hr hlocks hS (by first | omega | (dsimp only; omega)) (by first | omega | (dsimp only; omega)) ?_ dJ7_init_2_6
  exact hN
set_option maxHeartbeats 1000000 in
theorem m_initSB2 (l : Launch) (z : State) (H0 : Heap) (a : Nat) (x : Nat) (b cap : Nat) (T : List Nat) (k : Nat → Nat) (fv : Nat → Value) (hxa : x ≠ a) (hba : b ≠ a) (hO0 : gO z true RJ5 TJ5 4 H0 a [.null, .int 0, .int 0, .int 0]) (hg : gB z H0 x b cap T) (hzw : zW z) (hs : sS z k fv (fun q => q = a ∨ H0.size ≤ q) H0) : Met l yJ5_init_2 (ws_ yJ5_init_2 cJ5_init_2 5 (none)) { frames := 3, cells := 1, slots := T.length, locals := 86 } (gPc z H0 [.ref a, .ref x,  .null]) (gRv (fun q => q = a ∨ H0.size ≤ q) H0 (fun H1 => ∃ b1, H0.size ≤ b1 ∧ gS z true H1 a b1 T)) 1 T.length (fun q => q = a ∨ H0.size ≤ q) := by
  refine g_start (by decide +kernel) (Nat.le_of_ble_eq_true rfl) ?_
  intro p e s m below meth c ls hx hb hr hlocks hml hown hname hts hwm hl
  have hown : s.vm.findClass "java/lang/String" = some m.cls := hown
  have hal : z.vm.Alike s.vm := hwm.alike
  have hCF : CallFix p m c cJ5_init_2 5 s [.ref a, .ref x,  .null].toArray lw_all "java/lang/String" := ⟨hx, hb, hml, hown, hts⟩
  have hl : lv_has ls 5 [(0, .ref a), (1, .ref x), (2,  .null)] := hl
  have hS : va_S (fun q => q = a ∨ H0.size ≤ q) H0 H0 [] := va_S.rf
  obtain ⟨ml, f, hO, hB, hf, hF, hc, hc9, hT⟩ := hg
  have lt_a := hO0.lt
  have lt_x := hO.lt
  have lt_b := hB.lt
  refine lv_aload_n hx hb dJ5_init_2_0 rfl (lv_at hl 0 rfl) ?_
  refine W.objInit hx hb hown (hts _ q460) (hts _ q110) (hts _ q111) rfl (by rw [hml]; exact hl.1) rfl dJ5_init_2_1 (Nat.le_of_ble_eq_true rfl) (Nat.le_of_ble_eq_true rfl) ?_
  refine W.eq (g2 := F0 m 4 ls []) rfl ?_
  refine lv_aload_n hx hb dJ5_init_2_4 rfl (lv_at hl 1 rfl) ?_
  refine gcU0_rP (owner := RJ6) (x := yJ6_getValue) rfl hCF hwm hl.1 (m_sbValue l z H0 x b ml (nI T.length) hO ) (lw_app (lw_list5 q461 q463 q464 q462 q66) (lw_meth q465)) (by decide +kernel) (hO.recv hal) ⟨Nat.le_of_ble_eq_true rfl, Nat.le_of_ble_eq_true rfl⟩ ⟨by first | omega | (dsimp only; omega), by first | omega | (dsimp only; omega)⟩ (Nat.le_of_ble_eq_true rfl) dJ5_init_2_5 (fun r_1 hp => ?_)
  replace hp := hp.symm
  subst hp
  refine lv_astore_n hx hb dJ5_init_2_8 rfl hl (by decide) rfl (fun ls hl => ?_)
  have hl : lv_has ls 5 [(3, .ref b), (0, .ref a), (1, .ref x), (2,  .null)] := hl
  refine lv_aload_n hx hb dJ5_init_2_9 rfl (lv_at hl 2 rfl) ?_
  refine gcX0_iP hCF hwm hl.1 (m_sbLen l z H0 x b cap T ⟨ml, f, hO, hB, hf, hF, hc, hc9, hT⟩ ) (va_cwO (owner := "java/lang/AbstractStringBuilder") (x := ⟨"java/lang/AbstractStringBuilder", "length", "()I"⟩) 0 hts (lw_app (lw_list6 q466 q468 q467 q469 q470 q67) (lw_meth q471)) rfl rfl rfl q473 ⟨by decide, by decide, by decide +kernel⟩ ⟨Nat.le_of_ble_eq_true rfl, Nat.le_of_ble_eq_true rfl⟩) (hO.recv hal) ⟨by first | omega | (dsimp only; omega), by first | omega | (dsimp only; omega)⟩ (Nat.le_of_ble_eq_true rfl) dJ5_init_2_10 (fun r_2 hp => ?_)
  subst hp
  refine lv_istore hx hb dJ5_init_2_13 hl (by decide) rfl (fun ls hl => ?_)
  have hl : lv_has ls 5 [(4, .int (nI T.length)), (3, .ref b), (0, .ref a), (1, .ref x), (2,  .null)] := hl
  refine lv_aload_n hx hb dJ5_init_2_15 rfl (lv_at hl 3 rfl) ?_
  refine gcU0_iP (owner := RJ6) (x := yJ6_isLatin1) rfl hCF hwm hl.1 (m_sbLatin l z H0 x b ml (nI T.length) k fv hO (hs.cur hS) ) (lw_app (lw_list5 q474 q291 q292 q290 q66) (lw_meth q293)) (by decide +kernel) (hO.recv hal) ⟨Nat.le_of_ble_eq_true rfl, Nat.le_of_ble_eq_true rfl⟩ ⟨by first | omega | (dsimp only; omega), by first | omega | (dsimp only; omega)⟩ (Nat.le_of_ble_eq_true rfl) dJ5_init_2_16 (fun r_3 hp => ?_)
  subst hp
  refine lv_if_eq (tgt := 41) hx hb dJ5_init_2_19 (by decide) (fun c_19 => absurd c_19 (by decide)) (fun c_19 => ?_)
  refine lv_aload_n hx hb dJ5_init_2_22 rfl (lv_at hl 2 rfl) ?_
  refine lv_iconst (v := 0) hx hb dJ5_init_2_23 (by decide) ?_
  refine gw_putF (C := RJ5) (T := TJ5) (N := 4) (ty := .byte) (v := .int 0) hx hb hts in_J5 tyJ5 tyJ5_ok nmJ5 (hts _ q166) hown hal hO0 hS (by have hsz := hS.1; (try dsimp only [gfr]) <;> omega) 1 (by decide) (hts _ q524) (fun _ h9 => h9) rfl hname rfl (by decide +kernel) (rfl) (rfl) (Nat.le_of_ble_eq_true rfl) dJ5_init_2_24 (fun H_4 locs h_new hch hS => ?_)
  have hO := hO.ch hch (by omega)
  have hB := hB.ch hch (by omega)
  have sz_H_4 := hch.1
  clear hch
  have hO0 : gO z true RJ5 TJ5 4 H_4 a [.null, .int 0, .int 0, .int 0] := h_new
  refine lv_aload_n hx hb dJ5_init_2_27 rfl (lv_at hl 2 rfl) ?_
  refine lv_aload_n hx hb dJ5_init_2_28 rfl (lv_at hl 1 rfl) ?_
  refine lv_iconst (v := 0) hx hb dJ5_init_2_29 (by decide) ?_
  refine lv_iload hx hb dJ5_init_2_30 (lv_at hl 0 rfl) ?_
  refine gcS3_r hCF hwm hl.1 (m_copyRange l z H_4 b 0 T.length cap f (Nat.zero_le _) hc (by omega) hB (fun i _ hi => hF i (by omega)) hzw ) (lw_S q475 q476 q73 q477) yd_J13_copyOfRange hS (fun q h => by have hsz := hS.1; (try dsimp only [gfr] at h ⊢) <;> omega) ⟨Nat.le_of_ble_eq_true rfl, Nat.le_of_ble_eq_true rfl⟩ ⟨by first | omega | (dsimp only; omega), by first | omega | (dsimp only; omega)⟩ (Nat.le_of_ble_eq_true rfl) dJ5_init_2_32 (fun rc H_5 locs hp hex hS => ?_)
  have sz_H_5 : H_4.size ≤ H_5.size := hex.1
  have hgx := hex.x
  clear hex
  have hO0 := hO0.x hgx
  have hO := hO.x hgx
  have hB := hB.x hgx
  obtain ⟨hr1, hr2⟩ := hp
  have lt_rc := hr2.lt
  refine gw_putF (C := RJ5) (T := TJ5) (N := 4) (ty := (.array .byte)) (v := .ref rc) hx hb hts in_J5 tyJ5 tyJ5_ok nmJ5 (hts _ q166) hown hal hO0 hS (by have hsz := hS.1; (try dsimp only [gfr]) <;> omega) 0 (by decide) (hts _ q523) (fun _ h9 => h9) rfl hname rfl (by decide +kernel) (rfl) (rfl) (Nat.le_of_ble_eq_true rfl) dJ5_init_2_35 (fun H_6 locs h_new hch hS => ?_)
  have hO := hO.ch hch (by omega)
  have hB := hB.ch hch (by omega)
  have hr2 := hr2.ch hch (by omega)
  have sz_H_6 := hch.1
  clear hch
  have hO0 : gO z true RJ5 TJ5 4 H_6 a [.ref rc, .int 0, .int 0, .int 0] := h_new
  refine lv_goto (tgt := 97) hx hb dJ5_init_2_38 (by decide) ?_
  refine g_vret hx hb hr hlocks hS (by first | omega | (dsimp only; omega)) (by first | omega | (dsimp only; omega)) ?_ dJ5_init_2_97
  have hr3 : gI z true .byte H_6 rc T.length (bof T) := gA.cg hr2 fun i hi => by
    show Value.int (f (0 + i)) = Value.int _
    rw [Nat.zero_add, hf i hi]
    rfl
  exact ⟨rc, by omega, 0, 0, hO0, hr3, by omega, hT⟩
set_option maxHeartbeats 1000000 in
theorem m_initSB (l : Launch) (z : State) (H0 : Heap) (a : Nat) (x : Nat) (b cap : Nat) (T : List Nat) (k : Nat → Nat) (fv : Nat → Value) (hxa : x ≠ a) (hba : b ≠ a) (hO0 : gO z true RJ5 TJ5 4 H0 a [.null, .int 0, .int 0, .int 0]) (hg : gB z H0 x b cap T) (hzw : zW z) (hs : sS z k fv (fun q => q = a ∨ H0.size ≤ q) H0) : Met l yJ5_init (ws_ yJ5_init cJ5_init 2 (none)) { frames := 4, cells := 1, slots := T.length, locals := 110 } (gPc z H0 [.ref a, .ref x]) (gRv (fun q => q = a ∨ H0.size ≤ q) H0 (fun H1 => ∃ b1, H0.size ≤ b1 ∧ gS z true H1 a b1 T)) 1 T.length (fun q => q = a ∨ H0.size ≤ q) := by
  refine g_start (by decide +kernel) (Nat.le_of_ble_eq_true rfl) ?_
  intro p e s m below meth c ls hx hb hr hlocks hml hown hname hts hwm hl
  have hown : s.vm.findClass "java/lang/String" = some m.cls := hown
  have hal : z.vm.Alike s.vm := hwm.alike
  have hCF : CallFix p m c cJ5_init 2 s [.ref a, .ref x].toArray lw_all "java/lang/String" := ⟨hx, hb, hml, hown, hts⟩
  have hl : lv_has ls 2 [(0, .ref a), (1, .ref x)] := hl
  have hS : va_S (fun q => q = a ∨ H0.size ≤ q) H0 H0 [] := va_S.rf
  obtain ⟨ml, f, hO, hB, hf, hF, hc, hc9, hT⟩ := hg
  have lt_a := hO0.lt
  have lt_x := hO.lt
  have lt_b := hB.lt
  refine lv_aload_n hx hb dJ5_init_0 rfl (lv_at hl 0 rfl) ?_
  refine lv_aload_n hx hb dJ5_init_1 rfl (lv_at hl 1 rfl) ?_
  refine lv_null hx hb dJ5_init_2 ?_
  refine gcI2_v hCF hwm hl.1 (m_initSB2 l z H0 a x b cap T k fv hxa hba hO0 ⟨ml, f, hO, hB, hf, hF, hc, hc9, hT⟩ hzw hs ) q457 q458 q64 q459 rfl yd_J5_init_2 hS (fun q h => by have hsz := hS.1; (try dsimp only [gfr] at h ⊢) <;> omega) ⟨Nat.le_of_ble_eq_true rfl, Nat.le_of_ble_eq_true rfl⟩ ⟨by first | omega | (dsimp only; omega), by first | omega | (dsimp only; omega)⟩ (Nat.le_of_ble_eq_true rfl) dJ5_init_3 (fun H_1 locs hp hex hS => ?_)
  have sz_H_1 : H0.size ≤ H_1.size := hex.1
  have hN := hp
  refine g_vret hx hb hr hlocks hS (by first | omega | (dsimp only; omega)) (by first | omega | (dsimp only; omega)) ?_ dJ5_init_6
  exact hN
set_option maxHeartbeats 1000000 in
theorem m_sbToString (l : Launch) (z : State) (H0 : Heap) (a : Nat) (b cap : Nat) (T : List Nat) (k : Nat → Nat) (fv : Nat → Value) (hg : gB z H0 a b cap T) (hzw : zW z) (hs : sS z k fv (gfr H0) H0) : Met l yJ7_toString (ws_ yJ7_toString cJ7_toString 1 (some (.object "java/lang/String"))) { frames := 5, cells := 2, slots := (4 + T.length), locals := 131 } (gPc z H0 [.ref a]) (gRr (gfr H0) H0 (fun r H1 => H0.size ≤ r ∧ ∃ b1, H0.size ≤ b1 ∧ gS z true H1 r b1 T)) 2 (4 + T.length) (gfr H0) := by
  refine g_start (by decide +kernel) (Nat.le_of_ble_eq_true rfl) ?_
  intro p e s m below meth c ls hx hb hr hlocks hml hown hname hts hwm hl
  have hown : s.vm.findClass "java/lang/StringBuilder" = some m.cls := hown
  have hal : z.vm.Alike s.vm := hwm.alike
  have hCF : CallFix p m c cJ7_toString 1 s [.ref a].toArray lw_all "java/lang/StringBuilder" := ⟨hx, hb, hml, hown, hts⟩
  have hl : lv_has ls 1 [(0, .ref a)] := hl
  have hS : va_S (gfr H0) H0 H0 [] := va_S.rf
  obtain ⟨ml, f, hO, hB, hf, hF, hc, hc9, hT⟩ := hg
  have lt_a := hO.lt
  have lt_b := hB.lt
  refine gw_new (C := RJ5) (T := TJ5) (N := 4) (fs := [.null, .int 0, .int 0, .int 0]) hx hb hts in_J5 tyJ5 tyJ5_ok hown hal (hts _ q453) (hts _ q166) (hts _ q64) hS (by decide +kernel) (by first | omega | (dsimp only; omega)) (by first | omega | (dsimp only; omega)) dJ7_toString_0 (fun q_1 H_2 eq_1 zq_1 hgx h_q_1 hS => ?_)
  have hO := hO.x hgx
  have hB := hB.x hgx
  refine lv_dup hx hb dJ7_toString_3 rfl ?_
  refine lv_aload_n hx hb dJ7_toString_4 rfl (lv_at hl 0 rfl) ?_
  refine gcI1_v hCF hwm hl.1 (m_initSB l z H_2 q_1 a b cap T k fv (by omega) (by omega) h_q_1 ⟨ml, f, hO, hB, hf, hF, hc, hc9, hT⟩ hzw (hs.call hS (fun q h => by have hsz := hS.1; (try dsimp only [gfr] at h ⊢) <;> omega)) ) q454 q455 q64 q456 rfl yd_J5_init hS (fun q h => by have hsz := hS.1; (try dsimp only [gfr] at h ⊢) <;> omega) ⟨Nat.le_of_ble_eq_true rfl, Nat.le_of_ble_eq_true rfl⟩ ⟨by first | omega | (dsimp only; omega), by first | omega | (dsimp only; omega)⟩ (Nat.le_of_ble_eq_true rfl) dJ7_toString_5 (fun H_3 locs hp hex hS => ?_)
  have sz_H_3 : H_2.size ≤ H_3.size := hex.1
  have hO := hO.ex hex (by intro h; (try dsimp only [gfr] at h) <;> omega)
  have hB := hB.ex hex (by intro h; (try dsimp only [gfr] at h) <;> omega)
  obtain ⟨b1, hb1, hN⟩ := hp
  refine g_aret hx hb hr hlocks (Or.inl ⟨_, rfl⟩) hS (by first | omega | (dsimp only; omega)) (by first | omega | (dsimp only; omega)) ?_ dJ7_toString_8
  exact ⟨by omega, b1, by omega, hN⟩
set_option maxHeartbeats 1000000 in
theorem m_shiftR (l : Launch) (z : State) (H0 : Heap) (a : Nat) (u j : Nat) (b cap ct : Nat) (ml : Int32) (f : Nat → Int32) (hu : u ≤ ct) (hj : ct + j ≤ cap) (hO : gO z true RJ7 TJ7 4 H0 a [.ref b, .int 0, .int ml, .int (nI ct)]) (hB : gI z true .byte H0 b cap f) (hF : fitB cap f) (hc9 : cap < 1000000) : Met l yJ6_shift (ws_ yJ6_shift cJ6_shift 3 (none)) { frames := 1, cells := 0, slots := 0, locals := 40 } (gPc z H0 [.ref a, .int (nI u), .int (nI j)]) (gRv (fun q => q = b) H0 (fun H1 => gI z true .byte H1 b cap (va_cpy f f u (u + j) (ct - u)))) 0 0 (fun q => q = b) := by
  refine g_start (by decide +kernel) (Nat.le_of_ble_eq_true rfl) ?_
  intro p e s m below meth c ls hx hb hr hlocks hml hown hname hts hwm hl
  have hown : s.vm.findClass "java/lang/AbstractStringBuilder" = some m.cls := hown
  have hal : z.vm.Alike s.vm := hwm.alike
  have hCF : CallFix p m c cJ6_shift 3 s [.ref a, .int (nI u), .int (nI j)].toArray lw_all "java/lang/AbstractStringBuilder" := ⟨hx, hb, hml, hown, hts⟩
  have hl : lv_has ls 3 [(0, .ref a), (1, .int (nI u)), (2, .int (nI j))] := hl
  have hS : va_S (fun q => q = b) H0 H0 [] := va_S.rf
  have hab : a ≠ b := gA.neO2 hal hB hO (hts _ q192)
  have lt_a := hO.lt
  have lt_b := hB.lt
  refine lv_aload_n hx hb dJ6_shift_0 rfl (lv_at hl 0 rfl) ?_
  refine gw_get (C := RJ7) (T := TJ7) (N := 4) (v := .ref b) hx hb hts in_J7 hown hal hO 0 (by decide) (hts _ q354) (fun _ h9 => h9) rfl dJ6_shift_1 ?_
  refine lv_iload_n hx hb dJ6_shift_4 rfl (lv_at hl 1 rfl) ?_
  refine lv_aload_n hx hb dJ6_shift_5 rfl (lv_at hl 0 rfl) ?_
  refine gw_get (C := RJ7) (T := TJ7) (N := 4) (v := .int 0) hx hb hts in_J7 hown hal hO 1 (by decide) (hts _ q355) (fun _ h9 => h9) rfl dJ6_shift_6 ?_
  refine lv_ishl hx hb dJ6_shift_9 ?_
  refine g_topi (v := nI u) (ai_shl0 (rfl)) ?_
  refine lv_aload_n hx hb dJ6_shift_10 rfl (lv_at hl 0 rfl) ?_
  refine gw_get (C := RJ7) (T := TJ7) (N := 4) (v := .ref b) hx hb hts in_J7 hown hal hO 0 (by decide) (hts _ q354) (fun _ h9 => h9) rfl dJ6_shift_11 ?_
  refine lv_iload_n hx hb dJ6_shift_14 rfl (lv_at hl 1 rfl) ?_
  refine lv_iload_n hx hb dJ6_shift_15 rfl (lv_at hl 2 rfl) ?_
  refine lv_iadd hx hb dJ6_shift_16 ?_
  refine g_topi (v := nI (u + j)) (ai_add (a := u) (b := j) (rfl) (rfl)) ?_
  refine lv_aload_n hx hb dJ6_shift_17 rfl (lv_at hl 0 rfl) ?_
  refine gw_get (C := RJ7) (T := TJ7) (N := 4) (v := .int 0) hx hb hts in_J7 hown hal hO 1 (by decide) (hts _ q355) (fun _ h9 => h9) rfl dJ6_shift_18 ?_
  refine lv_ishl hx hb dJ6_shift_21 ?_
  refine g_topi (v := nI (u + j)) (ai_shl0 (rfl)) ?_
  refine lv_aload_n hx hb dJ6_shift_22 rfl (lv_at hl 0 rfl) ?_
  refine gw_get (C := RJ7) (T := TJ7) (N := 4) (v := .int (nI ct)) hx hb hts in_J7 hown hal hO 3 (by decide) (hts _ q358) (fun _ h9 => h9) rfl dJ6_shift_23 ?_
  refine lv_iload_n hx hb dJ6_shift_26 rfl (lv_at hl 1 rfl) ?_
  refine lv_isub hx hb dJ6_shift_27 ?_
  refine g_topi (v := nI (ct - u)) (ai_sub (a := ct) (b := u) (rfl) (rfl) (by omega)) ?_
  refine lv_aload_n hx hb dJ6_shift_28 rfl (lv_at hl 0 rfl) ?_
  refine gw_get (C := RJ7) (T := TJ7) (N := 4) (v := .int 0) hx hb hts in_J7 hown hal hO 1 (by decide) (hts _ q355) (fun _ h9 => h9) rfl dJ6_shift_29 ?_
  refine lv_ishl hx hb dJ6_shift_32 ?_
  refine g_topi (v := nI (ct - u)) (ai_shl0 (rfl)) ?_
  refine gw_copy hx hb (hml.trans hl.1.symm) hal hown (hts _ q958) (hts _ q288) (hts _ q287) (hts _ q74) rfl hB hB hS (by have hsz := hS.1; (try dsimp only [gfr]) <;> omega) u (u + j) (ct - u) (rfl) (rfl) (rfl) (by omega) (by omega) (by omega) (by omega) (fun i hi => hF _ (by omega)) (Nat.le_of_ble_eq_true rfl) (Nat.le_of_ble_eq_true rfl) dJ6_shift_33 (fun H_1 locs h_new hch hS => ?_)
  have hO := hO.ch hch (by omega)
  have sz_H_1 := hch.1
  clear hch
  have hB : gI z true .byte H_1 b cap (va_cpy f f u (u + j) (ct - u)) := h_new
  refine g_vret hx hb hr hlocks hS (Nat.le_of_ble_eq_true rfl) (Nat.le_of_ble_eq_true rfl) ?_ dJ6_shift_36
  exact hB
set_option maxHeartbeats 1000000 in
theorem m_shiftL (l : Launch) (z : State) (H0 : Heap) (a : Nat) (u : Nat) (b cap ct : Nat) (ml : Int32) (f : Nat → Int32) (hu1 : 1 ≤ u) (hu : u ≤ ct) (hj : ct ≤ cap) (hO : gO z true RJ7 TJ7 4 H0 a [.ref b, .int 0, .int ml, .int (nI ct)]) (hB : gI z true .byte H0 b cap f) (hF : fitB cap f) (hc9 : cap < 1000000) : Met l yJ6_shift (ws_ yJ6_shift cJ6_shift 3 (none)) { frames := 1, cells := 0, slots := 0, locals := 40 } (gPc z H0 [.ref a, .int (nI u), .int (-1)]) (gRv (fun q => q = b) H0 (fun H1 => gI z true .byte H1 b cap (va_cpy f f u (u - 1) (ct - u)))) 0 0 (fun q => q = b) := by
  refine g_start (by decide +kernel) (Nat.le_of_ble_eq_true rfl) ?_
  intro p e s m below meth c ls hx hb hr hlocks hml hown hname hts hwm hl
  have hown : s.vm.findClass "java/lang/AbstractStringBuilder" = some m.cls := hown
  have hal : z.vm.Alike s.vm := hwm.alike
  have hCF : CallFix p m c cJ6_shift 3 s [.ref a, .int (nI u), .int (-1)].toArray lw_all "java/lang/AbstractStringBuilder" := ⟨hx, hb, hml, hown, hts⟩
  have hl : lv_has ls 3 [(0, .ref a), (1, .int (nI u)), (2, .int (-1))] := hl
  have hS : va_S (fun q => q = b) H0 H0 [] := va_S.rf
  have hab : a ≠ b := gA.neO2 hal hB hO (hts _ q192)
  have lt_a := hO.lt
  have lt_b := hB.lt
  refine lv_aload_n hx hb dJ6_shift_0 rfl (lv_at hl 0 rfl) ?_
  refine gw_get (C := RJ7) (T := TJ7) (N := 4) (v := .ref b) hx hb hts in_J7 hown hal hO 0 (by decide) (hts _ q354) (fun _ h9 => h9) rfl dJ6_shift_1 ?_
  refine lv_iload_n hx hb dJ6_shift_4 rfl (lv_at hl 1 rfl) ?_
  refine lv_aload_n hx hb dJ6_shift_5 rfl (lv_at hl 0 rfl) ?_
  refine gw_get (C := RJ7) (T := TJ7) (N := 4) (v := .int 0) hx hb hts in_J7 hown hal hO 1 (by decide) (hts _ q355) (fun _ h9 => h9) rfl dJ6_shift_6 ?_
  refine lv_ishl hx hb dJ6_shift_9 ?_
  refine g_topi (v := nI u) (ai_shl0 (rfl)) ?_
  refine lv_aload_n hx hb dJ6_shift_10 rfl (lv_at hl 0 rfl) ?_
  refine gw_get (C := RJ7) (T := TJ7) (N := 4) (v := .ref b) hx hb hts in_J7 hown hal hO 0 (by decide) (hts _ q354) (fun _ h9 => h9) rfl dJ6_shift_11 ?_
  refine lv_iload_n hx hb dJ6_shift_14 rfl (lv_at hl 1 rfl) ?_
  refine lv_iload_n hx hb dJ6_shift_15 rfl (lv_at hl 2 rfl) ?_
  refine lv_iadd hx hb dJ6_shift_16 ?_
  refine g_topi (v := nI (u - 1)) (ai_dec (rfl) (by decide) (by omega)) ?_
  refine lv_aload_n hx hb dJ6_shift_17 rfl (lv_at hl 0 rfl) ?_
  refine gw_get (C := RJ7) (T := TJ7) (N := 4) (v := .int 0) hx hb hts in_J7 hown hal hO 1 (by decide) (hts _ q355) (fun _ h9 => h9) rfl dJ6_shift_18 ?_
  refine lv_ishl hx hb dJ6_shift_21 ?_
  refine g_topi (v := nI (u - 1)) (ai_shl0 (rfl)) ?_
  refine lv_aload_n hx hb dJ6_shift_22 rfl (lv_at hl 0 rfl) ?_
  refine gw_get (C := RJ7) (T := TJ7) (N := 4) (v := .int (nI ct)) hx hb hts in_J7 hown hal hO 3 (by decide) (hts _ q358) (fun _ h9 => h9) rfl dJ6_shift_23 ?_
  refine lv_iload_n hx hb dJ6_shift_26 rfl (lv_at hl 1 rfl) ?_
  refine lv_isub hx hb dJ6_shift_27 ?_
  refine g_topi (v := nI (ct - u)) (ai_sub (a := ct) (b := u) (rfl) (rfl) (by omega)) ?_
  refine lv_aload_n hx hb dJ6_shift_28 rfl (lv_at hl 0 rfl) ?_
  refine gw_get (C := RJ7) (T := TJ7) (N := 4) (v := .int 0) hx hb hts in_J7 hown hal hO 1 (by decide) (hts _ q355) (fun _ h9 => h9) rfl dJ6_shift_29 ?_
  refine lv_ishl hx hb dJ6_shift_32 ?_
  refine g_topi (v := nI (ct - u)) (ai_shl0 (rfl)) ?_
  refine gw_copy hx hb (hml.trans hl.1.symm) hal hown (hts _ q958) (hts _ q288) (hts _ q287) (hts _ q74) rfl hB hB hS (by have hsz := hS.1; (try dsimp only [gfr]) <;> omega) u (u - 1) (ct - u) (rfl) (rfl) (rfl) (by omega) (by omega) (by omega) (by omega) (fun i hi => hF _ (by omega)) (Nat.le_of_ble_eq_true rfl) (Nat.le_of_ble_eq_true rfl) dJ6_shift_33 (fun H_1 locs h_new hch hS => ?_)
  have hO := hO.ch hch (by omega)
  have sz_H_1 := hch.1
  clear hch
  have hB : gI z true .byte H_1 b cap (va_cpy f f u (u - 1) (ct - u)) := h_new
  refine g_vret hx hb hr hlocks hS (Nat.le_of_ble_eq_true rfl) (Nat.le_of_ble_eq_true rfl) ?_ dJ6_shift_36
  exact hB
set_option maxHeartbeats 1000000 in
theorem m_insert6 (l : Launch) (z : State) (H0 : Heap) (a : Nat) (x : Nat) (p0 : Nat) (b cap : Nat) (T : List Nat) (w2 : Bool) (b2 : Nat) (T2 : List Nat) (k : Nat → Nat) (fv : Nat → Value) (hp0 : p0 ≤ T.length) (hg : gB z H0 a b cap T) (hn9 : gcap cap (T.length + T2.length) < 1000000) (hstr2 : gS z w2 H0 x b2 T2) (hxa : x ≠ a) (hne : b2 ≠ b) (hs : sS z k fv (fun q => q = a ∨ q = b ∨ H0.size ≤ q) H0) : Met l yJ6_insert (ws_ yJ6_insert cJ6_insert 4 (some (.object "java/lang/AbstractStringBuilder"))) { frames := 4, cells := (gcel cap (T.length + T2.length)), slots := (gcst cap (T.length + T2.length)), locals := 91 } (gPc z H0 [.ref a, .int (nI p0), .ref x]) (gRr (fun q => q = a ∨ q = b ∨ H0.size ≤ q) H0 (fun r H1 => r = a ∧ ∃ b1, gB z H1 a b1 (gcap cap (T.length + T2.length)) (insT T p0 T2) ∧ (b1 = b ∨ H0.size ≤ b1))) (gcel cap (T.length + T2.length)) (gcst cap (T.length + T2.length)) (fun q => q = a ∨ q = b ∨ H0.size ≤ q) := by
  refine g_start (by decide +kernel) (Nat.le_of_ble_eq_true rfl) ?_
  intro p e s m below meth c ls hx hb hr hlocks hml hown hname hts hwm hl
  have hown : s.vm.findClass "java/lang/AbstractStringBuilder" = some m.cls := hown
  have hal : z.vm.Alike s.vm := hwm.alike
  have hCF : CallFix p m c cJ6_insert 4 s [.ref a, .int (nI p0), .ref x].toArray lw_all "java/lang/AbstractStringBuilder" := ⟨hx, hb, hml, hown, hts⟩
  have hl : lv_has ls 4 [(0, .ref a), (1, .int (nI p0)), (2, .ref x)] := hl
  have hS : va_S (fun q => q = a ∨ q = b ∨ H0.size ≤ q) H0 H0 [] := va_S.rf
  obtain ⟨ml, f, hO, hB, hf, hF, hc, hc9, hT⟩ := hg
  obtain ⟨h2, hz2, hO2, hB2, hT2⟩ := hstr2
  have hT21 := hT2.1
  have hab : a ≠ b := gA.neO2 hal hB hO (hts _ q192)
  have hxb : x ≠ b := gA.neO2 hal hB hO2 (hts _ q166)
  have h2a : b2 ≠ a := Ne.symm (gA.neO2 hal hB2 hO (hts _ q192))
  have lt_a := hO.lt
  have lt_b := hB.lt
  have lt_x := hO2.lt
  have lt_b2 := hB2.lt
  refine lv_iload_n hx hb dJ6_insert_0 rfl (lv_at hl 1 rfl) ?_
  refine lv_aload_n hx hb dJ6_insert_1 rfl (lv_at hl 0 rfl) ?_
  refine gw_get (C := RJ7) (T := TJ7) (N := 4) (v := .int (nI T.length)) hx hb hts in_J7 hown hal hO 3 (by decide) (hts _ q358) (fun _ h9 => h9) rfl dJ6_insert_2 ?_
  refine gcS2_vP hCF hwm hl.1 (m_checkOff l z H0  p0 T.length k fv hp0 (by omega) hs ) (lw_S q1560 q1561 q64 q1562) yd_J5_checkOffset ⟨Nat.le_of_ble_eq_true rfl, Nat.le_of_ble_eq_true rfl⟩ ⟨by first | omega | (dsimp only; omega), by first | omega | (dsimp only; omega)⟩ (Nat.le_of_ble_eq_true rfl) dJ6_insert_5 (fun hp => ?_)
  clear hp
  refine lv_aload_n hx hb dJ6_insert_8 rfl (lv_at hl 2 rfl) ?_
  refine lv_ifnonnull (tgt := 15) hx hb dJ6_insert_9 (by decide) ?_
  refine lv_aload_n hx hb dJ6_insert_15 rfl (lv_at hl 2 rfl) ?_
  refine gcV0_iP hCF hwm hl.1 (m_length l z H0 x w2 b2 T2 k fv ⟨h2, hz2, hO2, hB2, hT2⟩ hs ) (lw_V q218 q219 q220 q64 q221) ydv_J5_length (hO2.recv hal) ⟨Nat.le_of_ble_eq_true rfl, Nat.le_of_ble_eq_true rfl⟩ ⟨by first | omega | (dsimp only; omega), by first | omega | (dsimp only; omega)⟩ (Nat.le_of_ble_eq_true rfl) dJ6_insert_16 (fun r_1 hp => ?_)
  subst hp
  refine lv_istore_n hx hb dJ6_insert_19 rfl hl (by decide) rfl (fun ls hl => ?_)
  have hl : lv_has ls 4 [(3, .int (nI T2.length)), (0, .ref a), (1, .int (nI p0)), (2, .ref x)] := hl
  refine lv_aload_n hx hb dJ6_insert_20 rfl (lv_at hl 1 rfl) ?_
  refine lv_aload_n hx hb dJ6_insert_21 rfl (lv_at hl 1 rfl) ?_
  refine gw_get (C := RJ7) (T := TJ7) (N := 4) (v := .int (nI T.length)) hx hb hts in_J7 hown hal hO 3 (by decide) (hts _ q358) (fun _ h9 => h9) rfl dJ6_insert_22 ?_
  refine lv_iload_n hx hb dJ6_insert_25 rfl (lv_at hl 0 rfl) ?_
  refine lv_iadd hx hb dJ6_insert_26 ?_
  refine g_topi (v := nI (T.length + T2.length)) (ai_add (a := T.length) (b := T2.length) (rfl) (rfl)) ?_
  refine gcU1_v (owner := RJ6) (x := yJ6_ensureCapacityInternal) rfl hCF hwm hl.1 (m_ensure l z H0 a (T.length + T2.length) b cap T ⟨ml, f, hO, hB, hf, hF, hc, hc9, hT⟩ hn9 ) (lw_app (lw_list5 q255 q2425 qe1 q257 q66) (lw_meth q258)) (by decide +kernel) (hO.recv hal) hS (fun q h => by have hsz := hS.1; (try dsimp only [gfr] at h ⊢) <;> omega) ⟨Nat.le_of_ble_eq_true rfl, Nat.le_of_ble_eq_true rfl⟩ ⟨by first | omega | (dsimp only; omega), by first | omega | (dsimp only; omega)⟩ (Nat.le_of_ble_eq_true rfl) dJ6_insert_27 (fun H_2 locs hp hex hS => ?_)
  have sz_H_2 : H0.size ≤ H_2.size := hex.1
  have hO2 := hO2.ex hex (by intro h; (try dsimp only [gfr] at h) <;> omega)
  have hB2 := hB2.ex hex (by intro h; (try dsimp only [gfr] at h) <;> omega)
  obtain ⟨b1, ⟨ml1, f1, hO1, hB1, hf1, hF1, hc1, hc91, hT1⟩, hb1⟩ := hp
  have hge1 := gcap_ge cap (T.length + T2.length)
  have hab1 : a ≠ b1 := gA.neO2 hal hB1 hO1 (hts _ q192)
  have lt_a := hO1.lt
  have lt_b1 := hB1.lt
  refine lv_aload_n hx hb dJ6_insert_30 rfl (lv_at hl 1 rfl) ?_
  refine lv_iload_n hx hb dJ6_insert_31 rfl (lv_at hl 2 rfl) ?_
  refine lv_iload_n hx hb dJ6_insert_32 rfl (lv_at hl 0 rfl) ?_
  refine gcU2_v (owner := RJ6) (x := yJ6_shift) rfl hCF hwm hl.1 (m_shiftR l z H_2 a p0 T2.length b1 (gcap cap (T.length + T2.length)) T.length ml1 f1 hp0 (by omega) hO1 hB1 hF1 hc91 ) (lw_app (lw_list5 q1563 q2441 qe8 q1565 q66) (lw_meth q1566)) (by decide +kernel) (hO1.recv hal) hS (fun q h => by have hsz := hS.1; (try dsimp only [gfr] at h ⊢) <;> omega) ⟨Nat.le_of_ble_eq_true rfl, Nat.le_of_ble_eq_true rfl⟩ ⟨by first | omega | (dsimp only; omega), by first | omega | (dsimp only; omega)⟩ (Nat.le_of_ble_eq_true rfl) dJ6_insert_33 (fun H_4 locs hp hex hS => ?_)
  have sz_H_4 : H_2.size ≤ H_4.size := hex.1
  have hO2 := hO2.ex hex (by intro h; (try dsimp only [gfr] at h) <;> omega)
  have hB2 := hB2.ex hex (by intro h; (try dsimp only [gfr] at h) <;> omega)
  have hO1 := hO1.ex hex (by intro h; (try dsimp only [gfr] at h) <;> omega)
  have hB3 := hp
  have hF3 := fitB_cpy hF1 (show p0 + (T.length - p0) ≤ _ by omega) (dp := p0 + T2.length)
  have lt_b1 := hB3.lt
  refine lv_aload_n hx hb dJ6_insert_36 rfl (lv_at hl 1 rfl) ?_
  refine lv_dup hx hb dJ6_insert_37 rfl ?_
  refine gw_get (C := RJ7) (T := TJ7) (N := 4) (v := .int (nI T.length)) hx hb hts in_J7 hown hal hO1 3 (by decide) (hts _ q358) (fun _ h9 => h9) rfl dJ6_insert_38 ?_
  refine lv_iload_n hx hb dJ6_insert_41 rfl (lv_at hl 0 rfl) ?_
  refine lv_iadd hx hb dJ6_insert_42 ?_
  refine g_topi (v := nI (T.length + T2.length)) (ai_add (a := T.length) (b := T2.length) (rfl) (rfl)) ?_
  refine gw_put (C := RJ7) (T := TJ7) (N := 4) (ty := .int) (v := .int (nI (T.length + T2.length))) hx hb hts in_J7 tyJ7 tyJ7_ok nmJ7 (hts _ q192) hown hal hO1 hS (by have hsz := hS.1; (try dsimp only [gfr]) <;> omega) 3 (by decide) (hts _ q358) (fun _ h9 => h9) rfl (by decide +kernel) (rfl) (rfl) (Nat.le_of_ble_eq_true rfl) dJ6_insert_43 (fun H_6 locs h_new hch hS => ?_)
  have hO2 := hO2.ch hch (by omega)
  have hB2 := hB2.ch hch (by omega)
  have hB3 := hB3.ch hch (by omega)
  have sz_H_6 := hch.1
  clear hch
  have hO1 : gO z true RJ7 TJ7 4 H_6 a [.ref b1, .int 0, .int ml1, .int (nI (T.length + T2.length))] := h_new
  refine lv_aload_n hx hb dJ6_insert_46 rfl (lv_at hl 1 rfl) ?_
  refine lv_iload_n hx hb dJ6_insert_47 rfl (lv_at hl 2 rfl) ?_
  refine lv_aload_n hx hb dJ6_insert_48 rfl (lv_at hl 3 rfl) ?_
  refine gcU2_v (owner := RJ6) (x := yJ6_putStringAt) rfl hCF hwm hl.1 (m_putStr l z H_6 a x b1 (gcap cap (T.length + T2.length)) p0 ml1 (nI (T.length + T2.length)) _ w2 b2 T2 k fv hc91 (by omega) (by omega) hO1 hB3 ⟨h2, hz2, hO2, hB2, hT2⟩ (hs.call hS (fun q h => by have hsz := hS.1; (try dsimp only [gfr] at h ⊢) <;> omega)) ) (lw_app (lw_list5 q321 q2427 qe3 q323 q66) (lw_meth q324)) (by decide +kernel) (hO1.recv hal) hS (fun q h => by have hsz := hS.1; (try dsimp only [gfr] at h ⊢) <;> omega) ⟨Nat.le_of_ble_eq_true rfl, Nat.le_of_ble_eq_true rfl⟩ ⟨by first | omega | (dsimp only; omega), by first | omega | (dsimp only; omega)⟩ (Nat.le_of_ble_eq_true rfl) dJ6_insert_49 (fun H_7 locs hp hex hS => ?_)
  have sz_H_7 : H_6.size ≤ H_7.size := hex.1
  have hO2 := hO2.ex hex (by intro h; (try dsimp only [gfr] at h) <;> omega)
  have hB2 := hB2.ex hex (by intro h; (try dsimp only [gfr] at h) <;> omega)
  have hO1 := hO1.ex hex (by intro h; (try dsimp only [gfr] at h) <;> omega)
  have hB4 := hp
  have lt_b1 := hB4.lt
  refine lv_aload_n hx hb dJ6_insert_52 rfl (lv_at hl 1 rfl) ?_
  refine g_aret hx hb hr hlocks (Or.inl ⟨_, rfl⟩) hS (by first | omega | (dsimp only; omega)) (by first | omega | (dsimp only; omega)) ?_ dJ6_insert_53
  refine ⟨rfl, b1, ⟨ml1, _, by rw [insT_len hp0]; exact hO1, hB4, insT_at hp0 hf1, fitB_ovl hF3 _ hT2.2, by rw [insT_len hp0]; omega, hc91, insT_c hT hT2.2⟩, hb1⟩
set_option maxHeartbeats 1000000 in
theorem m_insert (l : Launch) (z : State) (H0 : Heap) (a : Nat) (x : Nat) (p0 : Nat) (b cap : Nat) (T : List Nat) (w2 : Bool) (b2 : Nat) (T2 : List Nat) (k : Nat → Nat) (fv : Nat → Value) (hp0 : p0 ≤ T.length) (hg : gB z H0 a b cap T) (hn9 : gcap cap (T.length + T2.length) < 1000000) (hstr2 : gS z w2 H0 x b2 T2) (hxa : x ≠ a) (hne : b2 ≠ b) (hs : sS z k fv (fun q => q = a ∨ q = b ∨ H0.size ≤ q) H0) : Met l yJ7_insert (ws_ yJ7_insert cJ7_insert 3 (some (.object "java/lang/StringBuilder"))) { frames := 5, cells := (gcel cap (T.length + T2.length)), slots := (gcst cap (T.length + T2.length)), locals := 114 } (gPc z H0 [.ref a, .int (nI p0), .ref x]) (gRr (fun q => q = a ∨ q = b ∨ H0.size ≤ q) H0 (fun r H1 => r = a ∧ ∃ b1, gB z H1 a b1 (gcap cap (T.length + T2.length)) (insT T p0 T2) ∧ (b1 = b ∨ H0.size ≤ b1))) (gcel cap (T.length + T2.length)) (gcst cap (T.length + T2.length)) (fun q => q = a ∨ q = b ∨ H0.size ≤ q) := by
  refine g_start (by decide +kernel) (Nat.le_of_ble_eq_true rfl) ?_
  intro p e s m below meth c ls hx hb hr hlocks hml hown hname hts hwm hl
  have hown : s.vm.findClass "java/lang/StringBuilder" = some m.cls := hown
  have hal : z.vm.Alike s.vm := hwm.alike
  have hCF : CallFix p m c cJ7_insert 3 s [.ref a, .int (nI p0), .ref x].toArray lw_all "java/lang/StringBuilder" := ⟨hx, hb, hml, hown, hts⟩
  have hl : lv_has ls 3 [(0, .ref a), (1, .int (nI p0)), (2, .ref x)] := hl
  have hS : va_S (fun q => q = a ∨ q = b ∨ H0.size ≤ q) H0 H0 [] := va_S.rf
  obtain ⟨ml, f, hO, hB, hf, hF, hc, hc9, hT⟩ := hg
  obtain ⟨h2, hz2, hO2, hB2, hT2⟩ := hstr2
  have hT21 := hT2.1
  have lt_a := hO.lt
  have lt_b := hB.lt
  have lt_x := hO2.lt
  have lt_b2 := hB2.lt
  refine lv_aload_n hx hb dJ7_insert_0 rfl (lv_at hl 0 rfl) ?_
  refine lv_iload_n hx hb dJ7_insert_1 rfl (lv_at hl 1 rfl) ?_
  refine lv_aload_n hx hb dJ7_insert_2 rfl (lv_at hl 2 rfl) ?_
  refine gcSU2_r hCF hwm hl.1 (m_insert6 l z H0 a x p0 b cap T w2 b2 T2 k fv hp0 ⟨ml, f, hO, hB, hf, hF, hc, hc9, hT⟩ hn9 ⟨h2, hz2, hO2, hB2, hT2⟩ hxa hne hs ) (lw_app (lw_list5 q1557 q2440 q249 q1558 q66) (lw_meth q1559)) ydu_J6_insert (hO.recv hal) ((w_classAt hts q192).choose_spec) hS (fun q h => by have hsz := hS.1; (try dsimp only [gfr] at h ⊢) <;> omega) ⟨Nat.le_of_ble_eq_true rfl, Nat.le_of_ble_eq_true rfl⟩ ⟨by first | omega | (dsimp only; omega), by first | omega | (dsimp only; omega)⟩ (Nat.le_of_ble_eq_true rfl) dJ7_insert_3 (fun r_2 H_1 locs hp hex hS => ?_)
  have sz_H_1 : H0.size ≤ H_1.size := hex.1
  obtain ⟨hr0, hN⟩ := hp
  refine lv_pop hx hb dJ7_insert_6 rfl ?_
  refine lv_aload_n hx hb dJ7_insert_7 rfl (lv_at hl 0 rfl) ?_
  refine g_aret hx hb hr hlocks (Or.inl ⟨_, rfl⟩) hS (by first | omega | (dsimp only; omega)) (by first | omega | (dsimp only; omega)) ?_ dJ7_insert_8
  exact ⟨rfl, hN⟩
set_option maxHeartbeats 1000000 in
theorem m_delete6 (l : Launch) (z : State) (H0 : Heap) (a : Nat) (p0 : Nat) (b cap : Nat) (T : List Nat) (k : Nat → Nat) (fv : Nat → Value) (hp0 : p0 < T.length) (hg : gB z H0 a b cap T) (hs : sS z k fv (fun q => q = a ∨ q = b) H0) : Met l yJ6_deleteCharAt (ws_ yJ6_deleteCharAt cJ6_deleteCharAt 2 (some (.object "java/lang/AbstractStringBuilder"))) { frames := 2, cells := 0, slots := 0, locals := 62 } (gPc z H0 [.ref a, .int (nI p0)]) (gRr (fun q => q = a ∨ q = b) H0 (fun r H1 => r = a ∧ gB z H1 a b cap (delT T p0))) 0 0 (fun q => q = a ∨ q = b) := by
  refine g_start (by decide +kernel) (Nat.le_of_ble_eq_true rfl) ?_
  intro p e s m below meth c ls hx hb hr hlocks hml hown hname hts hwm hl
  have hown : s.vm.findClass "java/lang/AbstractStringBuilder" = some m.cls := hown
  have hal : z.vm.Alike s.vm := hwm.alike
  have hCF : CallFix p m c cJ6_deleteCharAt 2 s [.ref a, .int (nI p0)].toArray lw_all "java/lang/AbstractStringBuilder" := ⟨hx, hb, hml, hown, hts⟩
  have hl : lv_has ls 2 [(0, .ref a), (1, .int (nI p0))] := hl
  have hS : va_S (fun q => q = a ∨ q = b) H0 H0 [] := va_S.rf
  obtain ⟨ml, f, hO, hB, hf, hF, hc, hc9, hT⟩ := hg
  have hab : a ≠ b := gA.neO2 hal hB hO (hts _ q192)
  have lt_a := hO.lt
  have lt_b := hB.lt
  refine lv_iload_n hx hb dJ6_deleteCharAt_0 rfl (lv_at hl 1 rfl) ?_
  refine lv_aload_n hx hb dJ6_deleteCharAt_1 rfl (lv_at hl 0 rfl) ?_
  refine gw_get (C := RJ7) (T := TJ7) (N := 4) (v := .int (nI T.length)) hx hb hts in_J7 hown hal hO 3 (by decide) (hts _ q358) (fun _ h9 => h9) rfl dJ6_deleteCharAt_2 ?_
  refine gcS2_vP hCF hwm hl.1 (m_checkIndexS l z H0  p0 T.length k fv hp0 (by omega) hs ) (lw_S q675 q550 q64 q551) yd_J5_checkIndex ⟨Nat.le_of_ble_eq_true rfl, Nat.le_of_ble_eq_true rfl⟩ ⟨Nat.le_of_ble_eq_true rfl, Nat.le_of_ble_eq_true rfl⟩ (Nat.le_of_ble_eq_true rfl) dJ6_deleteCharAt_5 (fun hp => ?_)
  clear hp
  refine lv_aload_n hx hb dJ6_deleteCharAt_8 rfl (lv_at hl 0 rfl) ?_
  refine lv_iload_n hx hb dJ6_deleteCharAt_9 rfl (lv_at hl 1 rfl) ?_
  refine lv_iconst (v := 1) hx hb dJ6_deleteCharAt_10 (by decide) ?_
  refine lv_iadd hx hb dJ6_deleteCharAt_11 ?_
  refine g_topi (v := nI (p0 + 1)) (ai_add (a := p0) (b := 1) (rfl) (rfl)) ?_
  refine lv_iconst (v := -1) hx hb dJ6_deleteCharAt_12 (by decide) ?_
  refine gcU2_v (owner := RJ6) (x := yJ6_shift) rfl hCF hwm hl.1 (m_shiftL l z H0 a (p0 + 1) b cap T.length ml f (by omega) (by omega) hc hO hB hF hc9 ) (lw_app (lw_list5 q1563 q2441 qe8 q1565 q66) (lw_meth q1566)) (by decide +kernel) (hO.recv hal) hS (fun q h => by have hsz := hS.1; (try dsimp only [gfr] at h ⊢) <;> omega) ⟨Nat.le_of_ble_eq_true rfl, Nat.le_of_ble_eq_true rfl⟩ ⟨Nat.le_of_ble_eq_true rfl, Nat.le_of_ble_eq_true rfl⟩ (Nat.le_of_ble_eq_true rfl) dJ6_deleteCharAt_13 (fun H_1 locs hp hex hS => ?_)
  have sz_H_1 : H0.size ≤ H_1.size := hex.1
  have hO := hO.ex hex (by intro h; (try dsimp only [gfr] at h) <;> omega)
  have hB3 := hp
  have hF3 := fitB_cpy hF (show p0 + 1 + (T.length - (p0 + 1)) ≤ _ by omega) (dp := p0)
  have lt_b := hB3.lt
  refine lv_aload_n hx hb dJ6_deleteCharAt_16 rfl (lv_at hl 0 rfl) ?_
  refine lv_dup hx hb dJ6_deleteCharAt_17 rfl ?_
  refine gw_get (C := RJ7) (T := TJ7) (N := 4) (v := .int (nI T.length)) hx hb hts in_J7 hown hal hO 3 (by decide) (hts _ q358) (fun _ h9 => h9) rfl dJ6_deleteCharAt_18 ?_
  refine lv_iconst (v := 1) hx hb dJ6_deleteCharAt_21 (by decide) ?_
  refine lv_isub hx hb dJ6_deleteCharAt_22 ?_
  refine g_topi (v := nI (T.length - 1)) (ai_sub (a := T.length) (b := 1) (rfl) (rfl) (by omega)) ?_
  refine gw_put (C := RJ7) (T := TJ7) (N := 4) (ty := .int) (v := .int (nI (T.length - 1))) hx hb hts in_J7 tyJ7 tyJ7_ok nmJ7 (hts _ q192) hown hal hO hS (by have hsz := hS.1; (try dsimp only [gfr]) <;> omega) 3 (by decide) (hts _ q358) (fun _ h9 => h9) rfl (by decide +kernel) (rfl) (rfl) (Nat.le_of_ble_eq_true rfl) dJ6_deleteCharAt_23 (fun H_3 locs h_new hch hS => ?_)
  have hB3 := hB3.ch hch (by omega)
  have sz_H_3 := hch.1
  clear hch
  have hO : gO z true RJ7 TJ7 4 H_3 a [.ref b, .int 0, .int ml, .int (nI (T.length - 1))] := h_new
  refine lv_aload_n hx hb dJ6_deleteCharAt_26 rfl (lv_at hl 0 rfl) ?_
  refine lv_iconst (v := 1) hx hb dJ6_deleteCharAt_27 (by decide) ?_
  refine gw_put (C := RJ7) (T := TJ7) (N := 4) (ty := .boolean) (v := .int 1) hx hb hts in_J7 tyJ7 tyJ7_ok nmJ7 (hts _ q192) hown hal hO hS (by have hsz := hS.1; (try dsimp only [gfr]) <;> omega) 2 (by decide) (hts _ q356) (fun _ h9 => h9) rfl (by decide +kernel) (rfl) (rfl) (Nat.le_of_ble_eq_true rfl) dJ6_deleteCharAt_28 (fun H_4 locs h_new hch hS => ?_)
  have hB3 := hB3.ch hch (by omega)
  have sz_H_4 := hch.1
  clear hch
  have hO : gO z true RJ7 TJ7 4 H_4 a [.ref b, .int 0, .int 1, .int (nI (T.length - 1))] := h_new
  refine lv_aload_n hx hb dJ6_deleteCharAt_31 rfl (lv_at hl 0 rfl) ?_
  refine g_aret hx hb hr hlocks (Or.inl ⟨_, rfl⟩) hS (Nat.le_of_ble_eq_true rfl) (Nat.le_of_ble_eq_true rfl) ?_ dJ6_deleteCharAt_32
  rw [Nat.add_sub_cancel] at hB3
  refine ⟨rfl, 1, _, by rw [delT_len hp0]; exact hO, hB3, delT_at hp0 hf, hF3, by rw [delT_len hp0]; omega, hc9, delT_c hT⟩
set_option maxHeartbeats 1000000 in
theorem m_delete (l : Launch) (z : State) (H0 : Heap) (a : Nat) (p0 : Nat) (b cap : Nat) (T : List Nat) (k : Nat → Nat) (fv : Nat → Value) (hp0 : p0 < T.length) (hg : gB z H0 a b cap T) (hs : sS z k fv (fun q => q = a ∨ q = b) H0) : Met l yJ7_deleteCharAt (ws_ yJ7_deleteCharAt cJ7_deleteCharAt 2 (some (.object "java/lang/StringBuilder"))) { frames := 3, cells := 0, slots := 0, locals := 83 } (gPc z H0 [.ref a, .int (nI p0)]) (gRr (fun q => q = a ∨ q = b) H0 (fun r H1 => r = a ∧ gB z H1 a b cap (delT T p0))) 0 0 (fun q => q = a ∨ q = b) := by
  refine g_start (by decide +kernel) (Nat.le_of_ble_eq_true rfl) ?_
  intro p e s m below meth c ls hx hb hr hlocks hml hown hname hts hwm hl
  have hown : s.vm.findClass "java/lang/StringBuilder" = some m.cls := hown
  have hal : z.vm.Alike s.vm := hwm.alike
  have hCF : CallFix p m c cJ7_deleteCharAt 2 s [.ref a, .int (nI p0)].toArray lw_all "java/lang/StringBuilder" := ⟨hx, hb, hml, hown, hts⟩
  have hl : lv_has ls 2 [(0, .ref a), (1, .int (nI p0))] := hl
  have hS : va_S (fun q => q = a ∨ q = b) H0 H0 [] := va_S.rf
  obtain ⟨ml, f, hO, hB, hf, hF, hc, hc9, hT⟩ := hg
  have lt_a := hO.lt
  have lt_b := hB.lt
  refine lv_aload_n hx hb dJ7_deleteCharAt_0 rfl (lv_at hl 0 rfl) ?_
  refine lv_iload_n hx hb dJ7_deleteCharAt_1 rfl (lv_at hl 1 rfl) ?_
  refine gcSU1_r hCF hwm hl.1 (m_delete6 l z H0 a p0 b cap T k fv hp0 ⟨ml, f, hO, hB, hf, hF, hc, hc9, hT⟩ hs ) (lw_app (lw_list5 q1575 q2442 q249 q1576 q66) (lw_meth q1577)) ydu_J6_deleteCharAt (hO.recv hal) ((w_classAt hts q192).choose_spec) hS (fun q h => by have hsz := hS.1; (try dsimp only [gfr] at h ⊢) <;> omega) ⟨Nat.le_of_ble_eq_true rfl, Nat.le_of_ble_eq_true rfl⟩ ⟨Nat.le_of_ble_eq_true rfl, Nat.le_of_ble_eq_true rfl⟩ (Nat.le_of_ble_eq_true rfl) dJ7_deleteCharAt_2 (fun r_2 H_1 locs hp hex hS => ?_)
  have sz_H_1 : H0.size ≤ H_1.size := hex.1
  obtain ⟨-, hN⟩ := hp
  refine lv_pop hx hb dJ7_deleteCharAt_5 rfl ?_
  refine lv_aload_n hx hb dJ7_deleteCharAt_6 rfl (lv_at hl 0 rfl) ?_
  refine g_aret hx hb hr hlocks (Or.inl ⟨_, rfl⟩) hS (Nat.le_of_ble_eq_true rfl) (Nat.le_of_ble_eq_true rfl) ?_ dJ7_deleteCharAt_7
  exact ⟨rfl, hN⟩
set_option maxHeartbeats 1000000 in
theorem m_reverse6 (l : Launch) (z : State) (H0 : Heap) (a : Nat) (b cap : Nat) (T : List Nat) (k : Nat → Nat) (fv : Nat → Value) (hT0 : 0 < T.length) (hg : gB z H0 a b cap T) (hs : sS z k fv (fun q => q = a ∨ q = b) H0) : Met l yJ6_reverse (ws_ yJ6_reverse cJ6_reverse 7 (some (.object "java/lang/AbstractStringBuilder"))) { frames := 1, cells := 0, slots := 0, locals := 20 } (gPc z H0 [.ref a]) (gRr (fun q => q = a ∨ q = b) H0 (fun r H1 => r = a ∧ gB z H1 a b cap T.reverse)) 0 0 (fun q => q = a ∨ q = b) := by
  refine g_start (by decide +kernel) (Nat.le_of_ble_eq_true rfl) ?_
  intro p e s m below meth c ls hx hb hr hlocks hml hown hname hts hwm hl
  have hown : s.vm.findClass "java/lang/AbstractStringBuilder" = some m.cls := hown
  have hal : z.vm.Alike s.vm := hwm.alike
  have hCF : CallFix p m c cJ6_reverse 7 s [.ref a].toArray lw_all "java/lang/AbstractStringBuilder" := ⟨hx, hb, hml, hown, hts⟩
  have hl : lv_has ls 7 [(0, .ref a)] := hl
  have hS : va_S (fun q => q = a ∨ q = b) H0 H0 [] := va_S.rf
  obtain ⟨ml, f, hO, hB, hf, hF, hc, hc9, hT⟩ := hg
  have hab : a ≠ b := gA.neO2 hal hB hO (hts _ q192)
  have lt_a := hO.lt
  have lt_b := hB.lt
  refine lv_aload_n hx hb dJ6_reverse_0 rfl (lv_at hl 0 rfl) ?_
  refine gw_get (C := RJ7) (T := TJ7) (N := 4) (v := .ref b) hx hb hts in_J7 hown hal hO 0 (by decide) (hts _ q354) (fun _ h9 => h9) rfl dJ6_reverse_1 ?_
  refine lv_astore_n hx hb dJ6_reverse_4 rfl hl (by decide) rfl (fun ls hl => ?_)
  have hl : lv_has ls 7 [(1, .ref b), (0, .ref a)] := hl
  refine lv_aload_n hx hb dJ6_reverse_5 rfl (lv_at hl 1 rfl) ?_
  refine gw_get (C := RJ7) (T := TJ7) (N := 4) (v := .int (nI T.length)) hx hb hts in_J7 hown hal hO 3 (by decide) (hts _ q358) (fun _ h9 => h9) rfl dJ6_reverse_6 ?_
  refine lv_istore_n hx hb dJ6_reverse_9 rfl hl (by decide) rfl (fun ls hl => ?_)
  have hl : lv_has ls 7 [(2, .int (nI T.length)), (1, .ref b), (0, .ref a)] := hl
  refine lv_iload_n hx hb dJ6_reverse_10 rfl (lv_at hl 0 rfl) ?_
  refine lv_iconst (v := 1) hx hb dJ6_reverse_11 (by decide) ?_
  refine lv_isub hx hb dJ6_reverse_12 ?_
  refine g_topi (v := nI (T.length - 1)) (ai_sub (a := T.length) (b := 1) (rfl) (rfl) (by omega)) ?_
  refine lv_istore_n hx hb dJ6_reverse_13 rfl hl (by decide) rfl (fun ls hl => ?_)
  have hl : lv_has ls 7 [(3, .int (nI (T.length - 1))), (2, .int (nI T.length)), (1, .ref b), (0, .ref a)] := hl
  refine lv_aload_n hx hb dJ6_reverse_14 rfl (lv_at hl 3 rfl) ?_
  refine gcU0_iP (owner := RJ6) (x := yJ6_isLatin1) rfl hCF hwm hl.1 (m_sbLatin l z H0 a b ml (nI T.length) k fv hO (hs.cur hS) ) (lw_app (lw_list5 q289 q291 q292 q290 q66) (lw_meth q293)) (by decide +kernel) (hO.recv hal) ⟨Nat.le_of_ble_eq_true rfl, Nat.le_of_ble_eq_true rfl⟩ ⟨Nat.le_of_ble_eq_true rfl, Nat.le_of_ble_eq_true rfl⟩ (Nat.le_of_ble_eq_true rfl) dJ6_reverse_15 (fun r_1 hp => ?_)
  subst hp
  refine lv_if_eq (tgt := 68) hx hb dJ6_reverse_18 (by decide) (fun c_18 => absurd c_18 (by decide)) (fun c_18 => ?_)
  refine lv_iload_n hx hb dJ6_reverse_21 rfl (lv_at hl 0 rfl) ?_
  refine lv_iconst (v := 1) hx hb dJ6_reverse_22 (by decide) ?_
  refine lv_isub hx hb dJ6_reverse_23 ?_
  refine g_topi (v := iI (((T.length - 1) : Nat) - 1)) (ai_subI (a := ((T.length - 1) : Nat)) (b := 1) (nI_iI _) (by decide)) ?_
  refine lv_iconst (v := 1) hx hb dJ6_reverse_24 (by decide) ?_
  refine lv_ishr hx hb dJ6_reverse_25 ?_
  refine g_topi (v := (iI (((T.length / 2 : Nat) : Int) - 1))) ?_ ?_
  · skip
    rw [ai_shr1 rfl (by omega) (by omega)]
    exact congrArg iI (by omega)
  refine lv_istore hx hb dJ6_reverse_26 hl (by decide) rfl (fun ls hl => ?_)
  have hl : lv_has ls 7 [(4, .int (iI (((T.length / 2 : Nat) : Int) - 1))), (3, .int (nI (T.length - 1))), (2, .int (nI T.length)), (1, .ref b), (0, .ref a)] := hl
  have e_fit : f = (rvb f T.length (T.length / 2)) := by
    funext i
    exact (rvb_0 f T.length i).symm
  replace hB : gI z true .byte H0 b cap (rvb f T.length (T.length / 2)) := by
    rw [← e_fit]
    exact hB
  clear e_fit
  have loop : ∀ (n_ : Nat) (j : Nat), (j ≤ T.length / 2) → (j) < n_ → ∀ (H_2 : Heap) (locs : List Loc), va_S (fun q => q = a ∨ q = b) H0 H_2 locs → gO z true RJ7 TJ7 4 H_2 a [.ref b, .int 0, .int ml, .int (nI T.length)] → gI z true .byte H_2 b cap (rvb f T.length j) → ∀ (ls : Array Slot), lv_has ls 7 [(4, .int (iI ((j : Int) - 1))), (3, .int (nI (T.length - 1))), (2, .int (nI T.length)), (1, .ref b), (0, .ref a)] → W p l e { frames := 1, cells := 0, slots := 0, locals := 20 } s m [.ref a].toArray below meth c H_2 locs 0 0 (MQ below (gRr (fun q => q = a ∨ q = b) H0 (fun r H1 => r = a ∧ gB z H1 a b cap T.reverse)) [.ref a].toArray s 0 0 (fun q => q = a ∨ q = b)) (F0 m 28 ls []) := by
    intro n_
    induction n_ with
    | zero => intro j hj hm_; exact absurd hm_ (Nat.not_lt_zero _)
    | succ n_ ih_loop =>
      intro j hj hm_ H_2 locs hS hO hB ls hl
      refine lv_iload hx hb dJ6_reverse_28 (lv_at hl 0 rfl) ?_
      refine lv_if_lt (tgt := 65) hx hb dJ6_reverse_30 (by decide) (fun c_30 => ?_) (fun c_30 => ?_)
      · skip
        have c_30 := (ai_ltI (a := ((j : Int) - 1)) (b := 0) (rfl) (by decide) (by omega) (by omega) (by omega) (by omega)).mp c_30
        refine lv_goto (tgt := 73) hx hb dJ6_reverse_65 (by decide) ?_
        refine lv_aload_n hx hb dJ6_reverse_73 rfl (lv_at hl 4 rfl) ?_
        refine g_aret hx hb hr hlocks (Or.inl ⟨_, rfl⟩) hS (Nat.le_of_ble_eq_true rfl) (Nat.le_of_ble_eq_true rfl) ?_ dJ6_reverse_74
        have e0 : j = 0 := by omega
        subst e0
        refine ⟨rfl, ml, _, by rw [List.length_reverse]; exact hO, hB, rvb_end hf, rvb_fit hF hc 0, by rw [List.length_reverse]; exact hc, hc9, fun c hc => hT c (List.mem_reverse.mp hc)⟩
      · skip
        have c_30 := mt (ai_ltI (a := ((j : Int) - 1)) (b := 0) (rfl) (by decide) (by omega) (by omega) (by omega) (by omega)).mpr c_30
        replace hl : lv_has ls 7 [(4, .int (nI (j - 1))), (3, .int (nI (T.length - 1))), (2, .int (nI T.length)), (1, .ref b), (0, .ref a)] := by
          rw [nI_iI, show ((j - 1 : Nat) : Int) = (j : Int) - 1 by omega]
          exact hl
        refine lv_iload_n hx hb dJ6_reverse_33 rfl (lv_at hl 1 rfl) ?_
        refine lv_iload hx hb dJ6_reverse_34 (lv_at hl 0 rfl) ?_
        refine lv_isub hx hb dJ6_reverse_36 ?_
        refine g_topi (v := (nI (T.length - j))) (by rw [pk_sub (by omega)]; exact congrArg nI (by omega)) ?_
        refine lv_istore hx hb dJ6_reverse_37 hl (by decide) rfl (fun ls hl => ?_)
        have hl : lv_has ls 7 [(5, .int (nI (T.length - j))), (4, .int (nI (j - 1))), (3, .int (nI (T.length - 1))), (2, .int (nI T.length)), (1, .ref b), (0, .ref a)] := hl
        refine lv_aload_n hx hb dJ6_reverse_39 rfl (lv_at hl 4 rfl) ?_
        refine lv_iload hx hb dJ6_reverse_40 (lv_at hl 1 rfl) ?_
        refine gw_bald hx hb hal hB (j - 1) (rfl) (by omega) (by omega) dJ6_reverse_42 ?_
        refine lv_istore hx hb dJ6_reverse_43 hl (by decide) rfl (fun ls hl => ?_)
        have hl : lv_has ls 7 [(6, .int ((rvb f T.length j) (j - 1))), (5, .int (nI (T.length - j))), (4, .int (nI (j - 1))), (3, .int (nI (T.length - 1))), (2, .int (nI T.length)), (1, .ref b), (0, .ref a)] := hl
        refine lv_aload_n hx hb dJ6_reverse_45 rfl (lv_at hl 5 rfl) ?_
        refine lv_iload hx hb dJ6_reverse_46 (lv_at hl 2 rfl) ?_
        refine lv_aload_n hx hb dJ6_reverse_48 rfl (lv_at hl 5 rfl) ?_
        refine lv_iload hx hb dJ6_reverse_49 (lv_at hl 1 rfl) ?_
        refine gw_bald hx hb hal hB (T.length - j) (rfl) (by omega) (by omega) dJ6_reverse_51 ?_
        refine gw_bast (f := (rvb f T.length j)) hx hb hal hB hS (by have hsz := hS.1; (try dsimp only [gfr]) <;> omega) (j - 1) (rfl) (by omega) (by omega) dJ6_reverse_52 (fun H_3 locs h_new hch hS => ?_)
        have hO := hO.ch hch (by omega)
        have sz_H_3 := hch.1
        clear hch
        have hB : gI z true .byte H_3 b cap (upd (rvb f T.length j) (j - 1) ((((rvb f T.length j) (T.length - j))).toInt8.toInt32)) := h_new
        refine lv_aload_n hx hb dJ6_reverse_53 rfl (lv_at hl 5 rfl) ?_
        refine lv_iload hx hb dJ6_reverse_54 (lv_at hl 1 rfl) ?_
        refine lv_iload hx hb dJ6_reverse_56 (lv_at hl 0 rfl) ?_
        refine gw_bast (f := (upd (rvb f T.length j) (j - 1) ((((rvb f T.length j) (T.length - j))).toInt8.toInt32))) hx hb hal hB hS (by have hsz := hS.1; (try dsimp only [gfr]) <;> omega) (T.length - j) (rfl) (by omega) (by omega) dJ6_reverse_58 (fun H_4 locs h_new hch hS => ?_)
        have hO := hO.ch hch (by omega)
        have sz_H_4 := hch.1
        clear hch
        have hB : gI z true .byte H_4 b cap (upd (upd (rvb f T.length j) (j - 1) ((((rvb f T.length j) (T.length - j))).toInt8.toInt32)) (T.length - j) ((((rvb f T.length j) (j - 1))).toInt8.toInt32)) := h_new
        refine lv_iinc (k := 2) (v := (iI (((j - 1 : Nat) : Int) - 1))) hx hb dJ6_reverse_59 hl rfl (by rw [nI_iI, show Int32.ofInt (-1) = iI (-1) from rfl, iI_add]; exact congrArg iI (by omega)) (by decide) rfl (fun ls hl => ?_)
        have hl : lv_has ls 7 [(4, .int (iI (((j - 1 : Nat) : Int) - 1))), (6, .int ((rvb f T.length j) (j - 1))), (5, .int (nI (T.length - j))), (3, .int (nI (T.length - 1))), (2, .int (nI T.length)), (1, .ref b), (0, .ref a)] := hl
        refine lv_goto (tgt := 28) hx hb dJ6_reverse_62 (by decide) ?_
        have e_fit : (upd (upd (rvb f T.length j) (j - 1) ((((rvb f T.length j) (T.length - j))).toInt8.toInt32)) (T.length - j) ((((rvb f T.length j) (j - 1))).toInt8.toInt32)) = (rvb f T.length (j - 1)) := by
          exact rvb_step hF hc (by omega) hj
        replace hB : gI z true .byte H_4 b cap (rvb f T.length (j - 1)) := by
          rw [← e_fit]
          exact hB
        clear e_fit
        exact ih_loop (j - 1) (by omega) (by omega) H_4 _ hS hO hB ls (lv_sub hl [0, 3, 4, 5, 6] rfl)
  exact loop _ (T.length / 2) (Nat.le_refl _) (Nat.lt_succ_self _) H0 _ hS hO hB ls (lv_sub hl [0, 1, 2, 3, 4] rfl)
