/-! ## walks (written by tools) -/
set_option maxRecDepth 100000
theorem dJ8_init_0 : decode cJ8_init 0 = .ok (.aload_n 0, 1) := by decide +kernel
theorem dJ8_init_1 : decode cJ8_init 1 = .ok (.invokespecial 1, 3) := by decide +kernel
theorem dJ8_init_4 : decode cJ8_init 4 = .ok (.return_, 1) := by decide +kernel
def dkwJ22_init_1 : List UInt8 := [180, 0, 28, 190, 18, 43, 161, 0, 7, 42, 182, 0, 44, 177]
abbrev dktJ22_init_1 : List UInt8 := dkwJ22_init_1 ++ []
def dkwJ22_init_0 : List UInt8 := [42, 183, 0, 3, 42, 43, 190, 154, 0, 7, 3, 167, 0, 4, 28, 181, 0, 32, 42, 43, 181, 0, 28, 42]
abbrev dktJ22_init_0 : List UInt8 := dkwJ22_init_0 ++ dktJ22_init_1
theorem dksJ22_init_0 : cJ22_init.data.toList.drop 0 = dktJ22_init_0 := by decide +kernel
theorem dksJ22_init_1 : cJ22_init.data.toList.drop 24 = dktJ22_init_1 := dk_seg dksJ22_init_0 24 rfl rfl
theorem dJ22_init_0 : decode cJ22_init 0 = .ok (.aload_n 0, 1) := dk_42 (dk_at dksJ22_init_0 0 rfl rfl)
theorem dJ22_init_1 : decode cJ22_init 1 = .ok (.invokespecial 3, 3) := dk_183 0 3 (dk_at dksJ22_init_0 1 rfl rfl)
theorem dJ22_init_4 : decode cJ22_init 4 = .ok (.aload_n 0, 1) := dk_42 (dk_at dksJ22_init_0 4 rfl rfl)
theorem dJ22_init_5 : decode cJ22_init 5 = .ok (.aload_n 1, 1) := dk_43 (dk_at dksJ22_init_0 5 rfl rfl)
theorem dJ22_init_6 : decode cJ22_init 6 = .ok (.arraylength, 1) := dk_190 (dk_at dksJ22_init_0 6 rfl rfl)
theorem dJ22_init_7 : decode cJ22_init 7 = .ok (.ifCond .ne 7, 3) := dk_154 0 7 (dk_at dksJ22_init_0 7 rfl rfl)
theorem dJ22_init_10 : decode cJ22_init 10 = .ok (.iconst 0, 1) := dk_3 (dk_at dksJ22_init_0 10 rfl rfl)
theorem dJ22_init_11 : decode cJ22_init 11 = .ok (.goto 4, 3) := dk_167 0 4 (dk_at dksJ22_init_0 11 rfl rfl)
theorem dJ22_init_14 : decode cJ22_init 14 = .ok (.iload_n 2, 1) := dk_28 (dk_at dksJ22_init_0 14 rfl rfl)
theorem dJ22_init_15 : decode cJ22_init 15 = .ok (.putfield 32, 3) := dk_181 0 32 (dk_at dksJ22_init_0 15 rfl rfl)
theorem dJ22_init_18 : decode cJ22_init 18 = .ok (.aload_n 0, 1) := dk_42 (dk_at dksJ22_init_0 18 rfl rfl)
theorem dJ22_init_19 : decode cJ22_init 19 = .ok (.aload_n 1, 1) := dk_43 (dk_at dksJ22_init_0 19 rfl rfl)
theorem dJ22_init_20 : decode cJ22_init 20 = .ok (.putfield 28, 3) := dk_181 0 28 (dk_at dksJ22_init_0 20 rfl rfl)
theorem dJ22_init_23 : decode cJ22_init 23 = .ok (.aload_n 0, 1) := dk_42 (dk_at dksJ22_init_0 23 rfl rfl)
theorem dJ22_init_24 : decode cJ22_init 24 = .ok (.getfield 28, 3) := dk_180 0 28 (dk_at dksJ22_init_1 0 rfl rfl)
theorem dJ22_init_27 : decode cJ22_init 27 = .ok (.arraylength, 1) := dk_190 (dk_at dksJ22_init_1 3 rfl rfl)
theorem dJ22_init_28 : decode cJ22_init 28 = .ok (.ldc 43, 2) := dk_18 43 (dk_at dksJ22_init_1 4 rfl rfl)
theorem dJ22_init_30 : decode cJ22_init 30 = .ok (.if_icmp .lt 7, 3) := dk_161 0 7 (dk_at dksJ22_init_1 6 rfl rfl)
theorem dJ22_init_33 : decode cJ22_init 33 = .ok (.aload_n 0, 1) := dk_42 (dk_at dksJ22_init_1 9 rfl rfl)
theorem dJ22_init_34 : decode cJ22_init 34 = .ok (.invokevirtual 44, 3) := dk_182 0 44 (dk_at dksJ22_init_1 10 rfl rfl)
theorem dJ22_init_37 : decode cJ22_init 37 = .ok (.return_, 1) := dk_177 (dk_at dksJ22_init_1 13 rfl rfl)
def dkwJ22_init_2_3 : List UInt8 := [180, 0, 28, 4, 31, 136, 79, 177]
abbrev dktJ22_init_2_3 : List UInt8 := dkwJ22_init_2_3 ++ []
def dkwJ22_init_2_2 : List UInt8 := [3, 31, 136, 79, 167, 0, 25, 42, 5, 188, 10, 181, 0, 28, 42, 180, 0, 28, 3, 29, 79, 42]
abbrev dktJ22_init_2_2 : List UInt8 := dkwJ22_init_2_2 ++ dktJ22_init_2_3
def dkwJ22_init_2_1 : List UInt8 := [181, 0, 32, 31, 16, 32, 125, 136, 62, 29, 154, 0, 21, 42, 4, 188, 10, 181, 0, 28, 42, 180, 0, 28]
abbrev dktJ22_init_2_1 : List UInt8 := dkwJ22_init_2_1 ++ dktJ22_init_2_2
def dkwJ22_init_2_0 : List UInt8 := [42, 183, 0, 3, 31, 9, 148, 156, 0, 14, 31, 117, 64, 42, 2, 181, 0, 32, 167, 0, 8, 42, 4]
abbrev dktJ22_init_2_0 : List UInt8 := dkwJ22_init_2_0 ++ dktJ22_init_2_1
theorem dksJ22_init_2_0 : cJ22_init_2.data.toList.drop 0 = dktJ22_init_2_0 := by decide +kernel
theorem dksJ22_init_2_1 : cJ22_init_2.data.toList.drop 23 = dktJ22_init_2_1 := dk_seg dksJ22_init_2_0 23 rfl rfl
theorem dksJ22_init_2_2 : cJ22_init_2.data.toList.drop 47 = dktJ22_init_2_2 := dk_seg dksJ22_init_2_1 24 rfl rfl
theorem dksJ22_init_2_3 : cJ22_init_2.data.toList.drop 69 = dktJ22_init_2_3 := dk_seg dksJ22_init_2_2 22 rfl rfl
theorem dJ22_init_2_0 : decode cJ22_init_2 0 = .ok (.aload_n 0, 1) := dk_42 (dk_at dksJ22_init_2_0 0 rfl rfl)
theorem dJ22_init_2_1 : decode cJ22_init_2 1 = .ok (.invokespecial 3, 3) := dk_183 0 3 (dk_at dksJ22_init_2_0 1 rfl rfl)
theorem dJ22_init_2_4 : decode cJ22_init_2 4 = .ok (.lload_n 1, 1) := dk_31 (dk_at dksJ22_init_2_0 4 rfl rfl)
theorem dJ22_init_2_5 : decode cJ22_init_2 5 = .ok (.lconst 0, 1) := dk_9 (dk_at dksJ22_init_2_0 5 rfl rfl)
theorem dJ22_init_2_6 : decode cJ22_init_2 6 = .ok (.lcmp, 1) := dk_148 (dk_at dksJ22_init_2_0 6 rfl rfl)
theorem dJ22_init_2_7 : decode cJ22_init_2 7 = .ok (.ifCond .ge 14, 3) := dk_156 0 14 (dk_at dksJ22_init_2_0 7 rfl rfl)
theorem dJ22_init_2_10 : decode cJ22_init_2 10 = .ok (.lload_n 1, 1) := dk_31 (dk_at dksJ22_init_2_0 10 rfl rfl)
theorem dJ22_init_2_11 : decode cJ22_init_2 11 = .ok (.lneg, 1) := dk_117 (dk_at dksJ22_init_2_0 11 rfl rfl)
theorem dJ22_init_2_12 : decode cJ22_init_2 12 = .ok (.lstore_n 1, 1) := dk_64 (dk_at dksJ22_init_2_0 12 rfl rfl)
theorem dJ22_init_2_13 : decode cJ22_init_2 13 = .ok (.aload_n 0, 1) := dk_42 (dk_at dksJ22_init_2_0 13 rfl rfl)
theorem dJ22_init_2_14 : decode cJ22_init_2 14 = .ok (.iconst (-1), 1) := dk_2 (dk_at dksJ22_init_2_0 14 rfl rfl)
theorem dJ22_init_2_15 : decode cJ22_init_2 15 = .ok (.putfield 32, 3) := dk_181 0 32 (dk_at dksJ22_init_2_0 15 rfl rfl)
theorem dJ22_init_2_18 : decode cJ22_init_2 18 = .ok (.goto 8, 3) := dk_167 0 8 (dk_at dksJ22_init_2_0 18 rfl rfl)
theorem dJ22_init_2_21 : decode cJ22_init_2 21 = .ok (.aload_n 0, 1) := dk_42 (dk_at dksJ22_init_2_0 21 rfl rfl)
theorem dJ22_init_2_22 : decode cJ22_init_2 22 = .ok (.iconst 1, 1) := dk_4 (dk_at dksJ22_init_2_0 22 rfl rfl)
theorem dJ22_init_2_23 : decode cJ22_init_2 23 = .ok (.putfield 32, 3) := dk_181 0 32 (dk_at dksJ22_init_2_1 0 rfl rfl)
theorem dJ22_init_2_26 : decode cJ22_init_2 26 = .ok (.lload_n 1, 1) := dk_31 (dk_at dksJ22_init_2_1 3 rfl rfl)
theorem dJ22_init_2_27 : decode cJ22_init_2 27 = .ok (.bipush 32, 2) := dk_16 32 (dk_at dksJ22_init_2_1 4 rfl rfl)
theorem dJ22_init_2_29 : decode cJ22_init_2 29 = .ok (.lushr, 1) := dk_125 (dk_at dksJ22_init_2_1 6 rfl rfl)
theorem dJ22_init_2_30 : decode cJ22_init_2 30 = .ok (.l2i, 1) := dk_136 (dk_at dksJ22_init_2_1 7 rfl rfl)
theorem dJ22_init_2_31 : decode cJ22_init_2 31 = .ok (.istore_n 3, 1) := dk_62 (dk_at dksJ22_init_2_1 8 rfl rfl)
theorem dJ22_init_2_32 : decode cJ22_init_2 32 = .ok (.iload_n 3, 1) := dk_29 (dk_at dksJ22_init_2_1 9 rfl rfl)
theorem dJ22_init_2_33 : decode cJ22_init_2 33 = .ok (.ifCond .ne 21, 3) := dk_154 0 21 (dk_at dksJ22_init_2_1 10 rfl rfl)
theorem dJ22_init_2_36 : decode cJ22_init_2 36 = .ok (.aload_n 0, 1) := dk_42 (dk_at dksJ22_init_2_1 13 rfl rfl)
theorem dJ22_init_2_37 : decode cJ22_init_2 37 = .ok (.iconst 1, 1) := dk_4 (dk_at dksJ22_init_2_1 14 rfl rfl)
theorem dJ22_init_2_38 : decode cJ22_init_2 38 = .ok (.newarray .int, 2) := dk_188_10 (dk_at dksJ22_init_2_1 15 rfl rfl)
theorem dJ22_init_2_40 : decode cJ22_init_2 40 = .ok (.putfield 28, 3) := dk_181 0 28 (dk_at dksJ22_init_2_1 17 rfl rfl)
theorem dJ22_init_2_43 : decode cJ22_init_2 43 = .ok (.aload_n 0, 1) := dk_42 (dk_at dksJ22_init_2_1 20 rfl rfl)
theorem dJ22_init_2_44 : decode cJ22_init_2 44 = .ok (.getfield 28, 3) := dk_180 0 28 (dk_at dksJ22_init_2_1 21 rfl rfl)
theorem dJ22_init_2_47 : decode cJ22_init_2 47 = .ok (.iconst 0, 1) := dk_3 (dk_at dksJ22_init_2_2 0 rfl rfl)
theorem dJ22_init_2_48 : decode cJ22_init_2 48 = .ok (.lload_n 1, 1) := dk_31 (dk_at dksJ22_init_2_2 1 rfl rfl)
theorem dJ22_init_2_49 : decode cJ22_init_2 49 = .ok (.l2i, 1) := dk_136 (dk_at dksJ22_init_2_2 2 rfl rfl)
theorem dJ22_init_2_50 : decode cJ22_init_2 50 = .ok (.iastore, 1) := dk_79 (dk_at dksJ22_init_2_2 3 rfl rfl)
theorem dJ22_init_2_51 : decode cJ22_init_2 51 = .ok (.goto 25, 3) := dk_167 0 25 (dk_at dksJ22_init_2_2 4 rfl rfl)
theorem dJ22_init_2_54 : decode cJ22_init_2 54 = .ok (.aload_n 0, 1) := dk_42 (dk_at dksJ22_init_2_2 7 rfl rfl)
theorem dJ22_init_2_55 : decode cJ22_init_2 55 = .ok (.iconst 2, 1) := dk_5 (dk_at dksJ22_init_2_2 8 rfl rfl)
theorem dJ22_init_2_56 : decode cJ22_init_2 56 = .ok (.newarray .int, 2) := dk_188_10 (dk_at dksJ22_init_2_2 9 rfl rfl)
theorem dJ22_init_2_58 : decode cJ22_init_2 58 = .ok (.putfield 28, 3) := dk_181 0 28 (dk_at dksJ22_init_2_2 11 rfl rfl)
theorem dJ22_init_2_61 : decode cJ22_init_2 61 = .ok (.aload_n 0, 1) := dk_42 (dk_at dksJ22_init_2_2 14 rfl rfl)
theorem dJ22_init_2_62 : decode cJ22_init_2 62 = .ok (.getfield 28, 3) := dk_180 0 28 (dk_at dksJ22_init_2_2 15 rfl rfl)
theorem dJ22_init_2_65 : decode cJ22_init_2 65 = .ok (.iconst 0, 1) := dk_3 (dk_at dksJ22_init_2_2 18 rfl rfl)
theorem dJ22_init_2_66 : decode cJ22_init_2 66 = .ok (.iload_n 3, 1) := dk_29 (dk_at dksJ22_init_2_2 19 rfl rfl)
theorem dJ22_init_2_67 : decode cJ22_init_2 67 = .ok (.iastore, 1) := dk_79 (dk_at dksJ22_init_2_2 20 rfl rfl)
theorem dJ22_init_2_68 : decode cJ22_init_2 68 = .ok (.aload_n 0, 1) := dk_42 (dk_at dksJ22_init_2_2 21 rfl rfl)
theorem dJ22_init_2_69 : decode cJ22_init_2 69 = .ok (.getfield 28, 3) := dk_180 0 28 (dk_at dksJ22_init_2_3 0 rfl rfl)
theorem dJ22_init_2_72 : decode cJ22_init_2 72 = .ok (.iconst 1, 1) := dk_4 (dk_at dksJ22_init_2_3 3 rfl rfl)
theorem dJ22_init_2_73 : decode cJ22_init_2 73 = .ok (.lload_n 1, 1) := dk_31 (dk_at dksJ22_init_2_3 4 rfl rfl)
theorem dJ22_init_2_74 : decode cJ22_init_2 74 = .ok (.l2i, 1) := dk_136 (dk_at dksJ22_init_2_3 5 rfl rfl)
theorem dJ22_init_2_75 : decode cJ22_init_2 75 = .ok (.iastore, 1) := dk_79 (dk_at dksJ22_init_2_3 6 rfl rfl)
theorem dJ22_init_2_76 : decode cJ22_init_2 76 = .ok (.return_, 1) := dk_177 (dk_at dksJ22_init_2_3 7 rfl rfl)
def dkwJ22_valueOf_2 : List UInt8 := [30, 117, 136, 50, 176, 187, 0, 23, 89, 30, 183, 1, 100, 176]
abbrev dktJ22_valueOf_2 : List UInt8 := dkwJ22_valueOf_2 ++ []
def dkwJ22_valueOf_1 : List UInt8 := [178, 1, 91, 30, 136, 50, 176, 30, 9, 148, 156, 0, 19, 30, 20, 1, 95, 148, 155, 0, 11, 178, 1, 97]
abbrev dktJ22_valueOf_1 : List UInt8 := dkwJ22_valueOf_1 ++ dktJ22_valueOf_2
def dkwJ22_valueOf_0 : List UInt8 := [30, 9, 148, 154, 0, 7, 178, 0, 22, 176, 30, 9, 148, 158, 0, 18, 30, 20, 1, 89, 148, 157, 0, 10]
abbrev dktJ22_valueOf_0 : List UInt8 := dkwJ22_valueOf_0 ++ dktJ22_valueOf_1
theorem dksJ22_valueOf_0 : cJ22_valueOf.data.toList.drop 0 = dktJ22_valueOf_0 := by decide +kernel
theorem dksJ22_valueOf_1 : cJ22_valueOf.data.toList.drop 24 = dktJ22_valueOf_1 := dk_seg dksJ22_valueOf_0 24 rfl rfl
theorem dksJ22_valueOf_2 : cJ22_valueOf.data.toList.drop 48 = dktJ22_valueOf_2 := dk_seg dksJ22_valueOf_1 24 rfl rfl
theorem dJ22_valueOf_0 : decode cJ22_valueOf 0 = .ok (.lload_n 0, 1) := dk_30 (dk_at dksJ22_valueOf_0 0 rfl rfl)
theorem dJ22_valueOf_1 : decode cJ22_valueOf 1 = .ok (.lconst 0, 1) := dk_9 (dk_at dksJ22_valueOf_0 1 rfl rfl)
theorem dJ22_valueOf_2 : decode cJ22_valueOf 2 = .ok (.lcmp, 1) := dk_148 (dk_at dksJ22_valueOf_0 2 rfl rfl)
theorem dJ22_valueOf_3 : decode cJ22_valueOf 3 = .ok (.ifCond .ne 7, 3) := dk_154 0 7 (dk_at dksJ22_valueOf_0 3 rfl rfl)
theorem dJ22_valueOf_6 : decode cJ22_valueOf 6 = .ok (.getstatic 22, 3) := dk_178 0 22 (dk_at dksJ22_valueOf_0 6 rfl rfl)
theorem dJ22_valueOf_9 : decode cJ22_valueOf 9 = .ok (.areturn, 1) := dk_176 (dk_at dksJ22_valueOf_0 9 rfl rfl)
theorem dJ22_valueOf_10 : decode cJ22_valueOf 10 = .ok (.lload_n 0, 1) := dk_30 (dk_at dksJ22_valueOf_0 10 rfl rfl)
theorem dJ22_valueOf_11 : decode cJ22_valueOf 11 = .ok (.lconst 0, 1) := dk_9 (dk_at dksJ22_valueOf_0 11 rfl rfl)
theorem dJ22_valueOf_12 : decode cJ22_valueOf 12 = .ok (.lcmp, 1) := dk_148 (dk_at dksJ22_valueOf_0 12 rfl rfl)
theorem dJ22_valueOf_13 : decode cJ22_valueOf 13 = .ok (.ifCond .le 18, 3) := dk_158 0 18 (dk_at dksJ22_valueOf_0 13 rfl rfl)
theorem dJ22_valueOf_16 : decode cJ22_valueOf 16 = .ok (.lload_n 0, 1) := dk_30 (dk_at dksJ22_valueOf_0 16 rfl rfl)
theorem dJ22_valueOf_17 : decode cJ22_valueOf 17 = .ok (.ldc2_w 345, 3) := dk_20 1 89 (dk_at dksJ22_valueOf_0 17 rfl rfl)
theorem dJ22_valueOf_20 : decode cJ22_valueOf 20 = .ok (.lcmp, 1) := dk_148 (dk_at dksJ22_valueOf_0 20 rfl rfl)
theorem dJ22_valueOf_21 : decode cJ22_valueOf 21 = .ok (.ifCond .gt 10, 3) := dk_157 0 10 (dk_at dksJ22_valueOf_0 21 rfl rfl)
theorem dJ22_valueOf_24 : decode cJ22_valueOf 24 = .ok (.getstatic 347, 3) := dk_178 1 91 (dk_at dksJ22_valueOf_1 0 rfl rfl)
theorem dJ22_valueOf_27 : decode cJ22_valueOf 27 = .ok (.lload_n 0, 1) := dk_30 (dk_at dksJ22_valueOf_1 3 rfl rfl)
theorem dJ22_valueOf_28 : decode cJ22_valueOf 28 = .ok (.l2i, 1) := dk_136 (dk_at dksJ22_valueOf_1 4 rfl rfl)
theorem dJ22_valueOf_29 : decode cJ22_valueOf 29 = .ok (.aaload, 1) := dk_50 (dk_at dksJ22_valueOf_1 5 rfl rfl)
theorem dJ22_valueOf_30 : decode cJ22_valueOf 30 = .ok (.areturn, 1) := dk_176 (dk_at dksJ22_valueOf_1 6 rfl rfl)
theorem dJ22_valueOf_31 : decode cJ22_valueOf 31 = .ok (.lload_n 0, 1) := dk_30 (dk_at dksJ22_valueOf_1 7 rfl rfl)
theorem dJ22_valueOf_32 : decode cJ22_valueOf 32 = .ok (.lconst 0, 1) := dk_9 (dk_at dksJ22_valueOf_1 8 rfl rfl)
theorem dJ22_valueOf_33 : decode cJ22_valueOf 33 = .ok (.lcmp, 1) := dk_148 (dk_at dksJ22_valueOf_1 9 rfl rfl)
theorem dJ22_valueOf_34 : decode cJ22_valueOf 34 = .ok (.ifCond .ge 19, 3) := dk_156 0 19 (dk_at dksJ22_valueOf_1 10 rfl rfl)
theorem dJ22_valueOf_37 : decode cJ22_valueOf 37 = .ok (.lload_n 0, 1) := dk_30 (dk_at dksJ22_valueOf_1 13 rfl rfl)
theorem dJ22_valueOf_38 : decode cJ22_valueOf 38 = .ok (.ldc2_w 351, 3) := dk_20 1 95 (dk_at dksJ22_valueOf_1 14 rfl rfl)
theorem dJ22_valueOf_41 : decode cJ22_valueOf 41 = .ok (.lcmp, 1) := dk_148 (dk_at dksJ22_valueOf_1 17 rfl rfl)
theorem dJ22_valueOf_42 : decode cJ22_valueOf 42 = .ok (.ifCond .lt 11, 3) := dk_155 0 11 (dk_at dksJ22_valueOf_1 18 rfl rfl)
theorem dJ22_valueOf_45 : decode cJ22_valueOf 45 = .ok (.getstatic 353, 3) := dk_178 1 97 (dk_at dksJ22_valueOf_1 21 rfl rfl)
theorem dJ22_valueOf_48 : decode cJ22_valueOf 48 = .ok (.lload_n 0, 1) := dk_30 (dk_at dksJ22_valueOf_2 0 rfl rfl)
theorem dJ22_valueOf_49 : decode cJ22_valueOf 49 = .ok (.lneg, 1) := dk_117 (dk_at dksJ22_valueOf_2 1 rfl rfl)
theorem dJ22_valueOf_50 : decode cJ22_valueOf 50 = .ok (.l2i, 1) := dk_136 (dk_at dksJ22_valueOf_2 2 rfl rfl)
theorem dJ22_valueOf_51 : decode cJ22_valueOf 51 = .ok (.aaload, 1) := dk_50 (dk_at dksJ22_valueOf_2 3 rfl rfl)
theorem dJ22_valueOf_52 : decode cJ22_valueOf 52 = .ok (.areturn, 1) := dk_176 (dk_at dksJ22_valueOf_2 4 rfl rfl)
theorem dJ22_valueOf_53 : decode cJ22_valueOf 53 = .ok (.new 23, 3) := dk_187 0 23 (dk_at dksJ22_valueOf_2 5 rfl rfl)
theorem dJ22_valueOf_56 : decode cJ22_valueOf 56 = .ok (.dup, 1) := dk_89 (dk_at dksJ22_valueOf_2 8 rfl rfl)
theorem dJ22_valueOf_57 : decode cJ22_valueOf 57 = .ok (.lload_n 0, 1) := dk_30 (dk_at dksJ22_valueOf_2 9 rfl rfl)
theorem dJ22_valueOf_58 : decode cJ22_valueOf 58 = .ok (.invokespecial 356, 3) := dk_183 1 100 (dk_at dksJ22_valueOf_2 10 rfl rfl)
theorem dJ22_valueOf_61 : decode cJ22_valueOf 61 = .ok (.areturn, 1) := dk_176 (dk_at dksJ22_valueOf_2 13 rfl rfl)
theorem yd_J22_init_2 : yJ22_init_2.cls ≠ "java/lang/invoke/MethodHandle" ∧ yJ22_init_2.cls ≠ "java/lang/invoke/VarHandle" ∧ (parseMethodDescriptor yJ22_init_2.desc).map (fun d => d.parameters.length) = some 1 := by decide +kernel
theorem yd_J8_init : yJ8_init.cls ≠ "java/lang/invoke/MethodHandle" ∧ yJ8_init.cls ≠ "java/lang/invoke/VarHandle" ∧ (parseMethodDescriptor yJ8_init.desc).map (fun d => d.parameters.length) = some 0 := by decide +kernel
/-! ### BigIntegers -/
def sgI (v : Int) : Int32 := if v = 0 then 0 else if v < 0 then -1 else 1
def isTz (n t : Nat) : Prop := n % 2 ^ t = 0 ∧ n / 2 ^ t % 2 = 1
/-- how many digits of 32 bits -/
def dl (v : Nat) : Nat := if v = 0 then 0 else dl (v / 4294967296) + 1
termination_by v
decreasing_by omega
theorem dl_0 : dl 0 = 0 := by rw [dl, if_pos rfl]
theorem dl_p {v : Nat} (h : 0 < v) : dl v = dl (v / 4294967296) + 1 := by rw [dl, if_neg (by omega)]
theorem dl_val {d : Nat → Nat} (hd : ∀ i, d i < 4294967296) : ∀ n, (0 < n → d 0 ≠ 0) → dl (val d n) = n
  | 0, _ => dl_0
  | 1, h => by
    have := h (by decide)
    have h1 := hd 0
    have e : val d 1 = d 0 := by show 0 * 4294967296 + d 0 = d 0; omega
    rw [e, dl_p (by omega), Nat.div_eq_of_lt h1, dl_0]
  | n + 2, h => by
    have ih := dl_val hd (n + 1) (fun _ => h (by omega))
    have h1 := hd (n + 1)
    have e : val d (n + 2) = val d (n + 1) * 4294967296 + d (n + 1) := rfl
    have e2 : (val d (n + 1) * 4294967296 + d (n + 1)) / 4294967296 = val d (n + 1) := by omega
    have h3 : 0 < val d (n + 1) := by
      rcases Nat.eq_zero_or_pos (val d (n + 1)) with q | q
      · rw [q, dl_0] at ih; omega
      · exact q
    rw [e, dl_p (by omega), e2, ih]
/-- the BigInteger v at a, its n digits d at m; w: made by this run -/
def bI (z : State) (w : Bool) (H : Heap) (a m n : Nat) (d : Nat → Nat) (v : Int) : Prop := ∃ c1 c2 c3 c4 : Int32, gO z w RJ22 TJ22 6 H a [.int (sgI v), .ref m, .int c1, .int c2, .int c3, .int c4] ∧ gI z w .int H m n (dI d) ∧ (∀ i, d i < 4294967296) ∧ val d n = v.natAbs ∧ (0 < n → d 0 ≠ 0) ∧ n < 1000 ∧
  ((w = true ∧ c2 = 0) ∨ ∃ b, c2 = nI (b + 1) ∧ isBl v.natAbs b ∧ b < 100000) ∧ ((w = true ∧ c3 = 0) ∨ (v = 0 ∧ c3 = 1) ∨ ∃ t, c3 = nI (t + 2) ∧ isTz v.natAbs t ∧ t < 100000)
section BIF
variable {z : State} {w : Bool} {H H1 : Heap} {a m n c : Nat} {d : Nat → Nat} {v : Int} {A : Nat → Prop}
theorem bI.lt (h : bI z w H a m n d v) : a < H.size ∧ m < H.size := by
  obtain ⟨c1, c2, c3, c4, hO, hM, -⟩ := h
  exact ⟨hO.lt, hM.lt⟩
theorem bI.to (h : bI z w H a m n d v) (h1 : H1[a]? = H[a]?) (h2 : H1[m]? = H[m]?) : bI z w H1 a m n d v := by
  obtain ⟨c1, c2, c3, c4, hO, hM, r⟩ := h
  exact ⟨c1, c2, c3, c4, hO.to h1, hM.to h2, r⟩
theorem bI.x (h : bI z w H a m n d v) (h1 : gx H H1) : bI z w H1 a m n d v := h.to (h1.2 _ h.lt.1) (h1.2 _ h.lt.2)
theorem bI.ex (h : bI z w H a m n d v) (h1 : gex A H H1) (ha : ¬ (A a ∨ A m)) : bI z w H1 a m n d v := h.to (h1.2 _ h.lt.1 (fun q => ha (Or.inl q))) (h1.2 _ h.lt.2 (fun q => ha (Or.inr q)))
theorem bI.ch (h : bI z w H a m n d v) (h1 : gch c H H1) (ha : a ≠ c ∧ m ≠ c) : bI z w H1 a m n d v := h.to (h1.2 _ ha.1) (h1.2 _ ha.2)
theorem bI.len (h : bI z w H a m n d v) : n = dl v.natAbs := by
  obtain ⟨c1, c2, c3, c4, hO, hM, h1, h2, h3, -⟩ := h
  rw [← h2, dl_val h1 n h3]
theorem bI.dg (h : bI z w H a m n d v) : ∀ i, d i < 4294967296 := by
  obtain ⟨c1, c2, c3, c4, hO, hM, h1, -⟩ := h
  exact h1
end BIF
/-- a small constant's digits -/
def cd (i : Nat) : Nat → Nat := fun j => if j = 0 then i else 0
def pcF (k : Nat → Nat) (o : Nat) : Nat → Value := fun j => if j = 0 then .null else .ref (k (o + j))
/-- BigInteger's constants -/
def sB (z : State) (k : Nat → Nat) (A : Nat → Prop) (H : Heap) : Prop :=
  (gZ z "java/math/BigInteger" "ZERO" "Ljava/math/BigInteger;" (.ref (k 14)) A H ∧ gZ z "java/math/BigInteger" "ONE" "Ljava/math/BigInteger;" (.ref (k 15)) A H ∧ gZ z "java/math/BigInteger" "posConst" "[Ljava/math/BigInteger;" (.ref (k 10)) A H ∧ gZ z "java/math/BigInteger" "negConst" "[Ljava/math/BigInteger;" (.ref (k 16)) A H) ∧
  (gA z false (.object "java/math/BigInteger") H (k 10) 17 (pcF k 20) ∧ gA z false (.object "java/math/BigInteger") H (k 16) 17 (pcF k 60)) ∧
  (bI z false H (k 14) (k 18) 0 (fun _ => 0) 0 ∧ bI z false H (k 15) (k 19) 1 (cd 1) 1 ∧ (∀ i : Nat, 1 ≤ i → i ≤ 16 → bI z false H (k (20 + i)) (k (40 + i)) 1 (cd i) i ∧ bI z false H (k (60 + i)) (k (80 + i)) 1 (cd i) (-(i : Int)))) ∧ (∀ j, 10 ≤ j → j < 100 → ¬ A (k j))
theorem sB.call {z : State} {k : Nat → Nat} {A A1 : Nat → Prop} {H0 H : Heap} {locs : List Loc} (h : sB z k A H0) (hS : va_S A H0 H locs) (hA : ∀ q, A1 q → A q) : sB z k A1 H := by
  obtain ⟨⟨z1, z2, z3, z4⟩, ⟨a1, a2⟩, ⟨b1, b2, b3⟩, hn⟩ := h
  have to : ∀ j, 10 ≤ j → j < 100 → k j < H0.size → H[k j]? = H0[k j]? := fun j h1 h2 h3 => hS.2.1 _ h3 (hn j h1 h2)
  refine ⟨⟨z1.call hS hA, z2.call hS hA, z3.call hS hA, z4.call hS hA⟩, ⟨a1.to (to 10 (by decide) (by decide) a1.lt), a2.to (to 16 (by decide) (by decide) a2.lt)⟩, ⟨b1.to (to 14 (by decide) (by decide) b1.lt.1) (to 18 (by decide) (by decide) b1.lt.2), b2.to (to 15 (by decide) (by decide) b2.lt.1) (to 19 (by decide) (by decide) b2.lt.2), fun i h1 h2 => ?_⟩, fun j h1 h2 q => hn j h1 h2 (hA _ q)⟩
  have q := b3 i h1 h2
  exact ⟨q.1.to (to _ (by omega) (by omega) q.1.lt.1) (to _ (by omega) (by omega) q.1.lt.2), q.2.to (to _ (by omega) (by omega) q.2.lt.1) (to _ (by omega) (by omega) q.2.lt.2)⟩
theorem sB.cur {z : State} {k : Nat → Nat} {A : Nat → Prop} {H0 H : Heap} {locs : List Loc} (h : sB z k A H0) (hS : va_S A H0 H locs) : sB z k A H := h.call hS (fun _ q => q)
section GWR
variable {p : Program} {l : Launch} {e : Env} {R : Room} {s : State} {m : MethodId} {args : Array Value} {below : List Frame} {meth : Method} {c : Code} {H : Heap} {locs : List Loc} {cells slots : Nat} {Q : State → Prop}
variable {cc : ByteArray} {pc : Nat} {ls : Array Slot} {rest : List Value} {z : State} {A : Nat → Prop} {a n : Nat} {H0 : Heap} {wf : Bool}
theorem gw_aald (hexec : p.tables.exec = Jvm.exec) (hb : c.code = cc) (hal : z.vm.Alike s.vm) {C : String} {f : Nat → Value} (hO : gA z wf (.object C) H a n f) {x : Int32} (k : Nat) (hx : x = nI k) (hk : k < n) (h31 : n < 2 ^ 31) {r : Nat} (hr : f k = .ref r) (hdg : decode cc pc = .ok (.aaload, 1))
    (kk : W p l e R s m args below meth c H locs cells slots Q (F0 m (pc + 1) ls (.ref r :: rest))) : W p l e R s m args below meth c H locs cells slots Q (F0 m pc ls (.int x :: .ref a :: rest)) := by
  subst hx
  obtain ⟨cell, h1, h2, h3, h4, h5, h6, -⟩ := hO
  exact W.aald (v := .ref r) hexec hb h1 (State.isArrayOf_alike hal h2) rfl h3 (g_in h4 hk h31) (by rw [nI_clamp (by omega)]; rw [h6 k hk, hr]) rfl rfl hdg kk
end GWR
theorem sg_pos {v : Int} (h : 0 < v) : sgI v = 1 := by unfold sgI; rw [if_neg (by omega), if_neg (by omega)]
theorem sg_neg {v : Int} (h : v < 0) : sgI v = -1 := by unfold sgI; rw [if_neg (by omega), if_pos h]

set_option maxHeartbeats 1000000 in
theorem m_numInit (l : Launch) (z : State) (H0 : Heap) (a : Nat)   : Met l yJ8_init (ws_ yJ8_init cJ8_init 1 (none)) { frames := 1, cells := 0, slots := 0, locals := 12 } (gPc z H0 [.ref a]) (gPv H0 (True)) 0 0 gno := by
  refine g_start (by decide +kernel) (Nat.le_of_ble_eq_true rfl) ?_
  intro p e s m below meth c ls hx hb hr hlocks hml hown hname hts hwm hl
  have hown : s.vm.findClass "java/lang/Number" = some m.cls := hown
  have hal : z.vm.Alike s.vm := hwm.alike
  have hCF : CallFix p m c cJ8_init 1 s [.ref a].toArray lw_all "java/lang/Number" := ⟨hx, hb, hml, hown, hts⟩
  have hl : lv_has ls 1 [(0, .ref a)] := hl
  refine lv_aload_n hx hb dJ8_init_0 rfl (lv_at hl 0 rfl) ?_
  refine W.objInit hx hb hown (hts _ q826) (hts _ q110) (hts _ q111) rfl (by rw [hml]; exact hl.1) rfl dJ8_init_1 (Nat.le_of_ble_eq_true rfl) (Nat.le_of_ble_eq_true rfl) ?_
  refine W.eq (g2 := F0 m 4 ls []) rfl ?_
  refine g_vretP hx hb hr hlocks ?_ dJ8_init_4
  trivial
set_option maxHeartbeats 1000000 in
theorem m_bigInit (l : Launch) (z : State) (H0 : Heap) (a : Nat) (m0 : Nat) (sx : Int32) (n : Nat) (d : Nat → Nat) (w : Bool) (hn0 : 0 < n) (hn9 : n < 1000) (hO : gO z true RJ22 TJ22 6 H0 a [.int 0, .null, .int 0, .int 0, .int 0, .int 0]) (hM : gI z w .int H0 m0 n (dI d)) : Met l yJ22_init (ws_ yJ22_init cJ22_init 3 (none)) { frames := 2, cells := 0, slots := 0, locals := 32 } (gPc z H0 [.ref a, .ref m0, .int sx]) (gRv (fun q => q = a) H0 (fun H1 => gO z true RJ22 TJ22 6 H1 a [.int sx, .ref m0, .int 0, .int 0, .int 0, .int 0])) 0 0 (fun q => q = a) := by
  refine g_start (by decide +kernel) (Nat.le_of_ble_eq_true rfl) ?_
  intro p e s m below meth c ls hx hb hr hlocks hml hown hname hts hwm hl
  have hown : s.vm.findClass "java/math/BigInteger" = some m.cls := hown
  have hal : z.vm.Alike s.vm := hwm.alike
  have hCF : CallFix p m c cJ22_init 3 s [.ref a, .ref m0, .int sx].toArray lw_all "java/math/BigInteger" := ⟨hx, hb, hml, hown, hts⟩
  have hl : lv_has ls 3 [(0, .ref a), (1, .ref m0), (2, .int sx)] := hl
  have hS : va_S (fun q => q = a) H0 H0 [] := va_S.rf
  have hma : m0 ≠ a := Ne.symm (gA.neO2 hal hM hO (hts _ q819))
  have lt_a := hO.lt
  have lt_m0 := hM.lt
  refine lv_aload_n hx hb dJ22_init_0 rfl (lv_at hl 0 rfl) ?_
  refine gcI0_vP hCF hwm hl.1 (m_numInit l z H0 a  ) q823 q824 q68 q825 rfl yd_J8_init ⟨Nat.le_of_ble_eq_true rfl, Nat.le_of_ble_eq_true rfl⟩ ⟨Nat.le_of_ble_eq_true rfl, Nat.le_of_ble_eq_true rfl⟩ (Nat.le_of_ble_eq_true rfl) dJ22_init_1 (fun hp => ?_)
  clear hp
  refine lv_aload_n hx hb dJ22_init_4 rfl (lv_at hl 0 rfl) ?_
  refine lv_aload_n hx hb dJ22_init_5 rfl (lv_at hl 1 rfl) ?_
  refine gw_len hx hb hal hM dJ22_init_6 ?_
  refine lv_if_ne (tgt := 14) hx hb dJ22_init_7 (by decide) (fun c_7 => ?_) (fun c_7 => False.elim (by
    have c_7 := (ai_eq (a := n) (b := 0) (rfl) (rfl) (by omega) (by omega)).mp c_7
    omega))
  have c_7 := mt (ai_eq (a := n) (b := 0) (rfl) (rfl) (by omega) (by omega)).mpr c_7
  refine lv_iload_n hx hb dJ22_init_14 rfl (lv_at hl 2 rfl) ?_
  refine gw_putF (C := RJ22) (T := TJ22) (N := 6) (ty := .int) (v := .int sx) hx hb hts in_J22 tyJ22 tyJ22_ok nmJ22 (hts _ q819) hown hal hO hS (by have hsz := hS.1; (try dsimp only [gfr]) <;> omega) 0 (by decide) (hts _ q835) (fun _ h9 => h9) rfl hname rfl (by decide +kernel) (rfl) (rfl) (Nat.le_of_ble_eq_true rfl) dJ22_init_15 (fun H_1 locs h_new hch hS => ?_)
  have hM := hM.ch hch (by omega)
  have sz_H_1 := hch.1
  clear hch
  have hO : gO z true RJ22 TJ22 6 H_1 a [.int sx, .null, .int 0, .int 0, .int 0, .int 0] := h_new
  refine lv_aload_n hx hb dJ22_init_18 rfl (lv_at hl 0 rfl) ?_
  refine lv_aload_n hx hb dJ22_init_19 rfl (lv_at hl 1 rfl) ?_
  refine gw_putF (C := RJ22) (T := TJ22) (N := 6) (ty := (.array .int)) (v := .ref m0) hx hb hts in_J22 tyJ22 tyJ22_ok nmJ22 (hts _ q819) hown hal hO hS (by have hsz := hS.1; (try dsimp only [gfr]) <;> omega) 1 (by decide) (hts _ q837) (fun _ h9 => h9) rfl hname rfl (by decide +kernel) (rfl) (rfl) (Nat.le_of_ble_eq_true rfl) dJ22_init_20 (fun H_2 locs h_new hch hS => ?_)
  have hM := hM.ch hch (by omega)
  have sz_H_2 := hch.1
  clear hch
  have hO : gO z true RJ22 TJ22 6 H_2 a [.int sx, .ref m0, .int 0, .int 0, .int 0, .int 0] := h_new
  refine lv_aload_n hx hb dJ22_init_23 rfl (lv_at hl 0 rfl) ?_
  refine gw_get (C := RJ22) (T := TJ22) (N := 6) (v := .ref m0) hx hb hts in_J22 hown hal hO 1 (by decide) (hts _ q837) (fun _ h9 => h9) rfl dJ22_init_24 ?_
  refine gw_len hx hb hal hM dJ22_init_27 ?_
  refine lv_ldc (v := 67108864) hx hb hown (hts _ q827) dJ22_init_28 ?_
  refine lv_icmp_lt (tgt := 37) hx hb dJ22_init_30 (by decide) (fun c_30 => ?_) (fun c_30 => False.elim (by
    have c_30 := mt (ai_lt (a := n) (b := 67108864) (rfl) (rfl) (by omega) (by omega)).mpr c_30
    omega))
  have c_30 := (ai_lt (a := n) (b := 67108864) (rfl) (rfl) (by omega) (by omega)).mp c_30
  refine g_vret hx hb hr hlocks hS (Nat.le_of_ble_eq_true rfl) (Nat.le_of_ble_eq_true rfl) ?_ dJ22_init_37
  exact hO
set_option maxHeartbeats 1000000 in
theorem m_bigInitJ (l : Launch) (z : State) (H0 : Heap) (a : Nat) (v : Int) (hv0 : v ≠ 0) (hv1 : -9223372036854775807 ≤ v) (hv2 : v ≤ 9223372036854775807) (hO : gO z true RJ22 TJ22 6 H0 a [.int 0, .null, .int 0, .int 0, .int 0, .int 0]) : Met l yJ22_init_2 (ws_ yJ22_init_2 cJ22_init_2 4 (none)) { frames := 2, cells := 1, slots := 2, locals := 32 } (gPc z H0 [.ref a, .long (lI v)]) (gRv (fun q => q = a ∨ H0.size ≤ q) H0 (fun H1 => ∃ m0 n d, H0.size ≤ m0 ∧ bI z true H1 a m0 n d v ∧ n ≤ 2)) 1 2 (fun q => q = a ∨ H0.size ≤ q) := by
  refine g_start (by decide +kernel) (Nat.le_of_ble_eq_true rfl) ?_
  intro p e s m below meth c ls hx hb hr hlocks hml hown hname hts hwm hl
  have hown : s.vm.findClass "java/math/BigInteger" = some m.cls := hown
  have hal : z.vm.Alike s.vm := hwm.alike
  have hCF : CallFix p m c cJ22_init_2 4 s [.ref a, .long (lI v)].toArray lw_all "java/math/BigInteger" := ⟨hx, hb, hml, hown, hts⟩
  have hl : lv_has ls 4 [(0, .ref a), (1, .long (lI v))] := hl
  have hS : va_S (fun q => q = a ∨ H0.size ≤ q) H0 H0 [] := va_S.rf
  have lt_a := hO.lt
  refine lv_aload_n hx hb dJ22_init_2_0 rfl (lv_at hl 0 rfl) ?_
  refine gcI0_vP hCF hwm hl.1 (m_numInit l z H0 a  ) q823 q824 q68 q825 rfl yd_J8_init ⟨Nat.le_of_ble_eq_true rfl, Nat.le_of_ble_eq_true rfl⟩ ⟨by first | omega | (dsimp only; omega), by first | omega | (dsimp only; omega)⟩ (Nat.le_of_ble_eq_true rfl) dJ22_init_2_1 (fun hp => ?_)
  clear hp
  refine lv_lload_n hx hb dJ22_init_2_4 rfl (lv_at hl 1 rfl) ?_
  refine lv_lconst (v := 0) hx hb dJ22_init_2_5 (by decide) ?_
  refine W.lcmp hx hb dJ22_init_2_6 ?_
  refine lv_if_ge (tgt := 21) hx hb dJ22_init_2_7 (by decide) (fun c_7 => ?_) (fun c_7 => ?_)
  · skip
    have c_7 := (ai_cge (a := v) (b := 0) (rfl) (by decide) (by omega) (by omega) (by omega) (by omega)).mp c_7
    refine lv_aload_n hx hb dJ22_init_2_21 rfl (lv_at hl 0 rfl) ?_
    refine lv_iconst (v := 1) hx hb dJ22_init_2_22 (by decide) ?_
    refine gw_putF (C := RJ22) (T := TJ22) (N := 6) (ty := .int) (v := .int 1) hx hb hts in_J22 tyJ22 tyJ22_ok nmJ22 (hts _ q819) hown hal hO hS (by have hsz := hS.1; (try dsimp only [gfr]) <;> omega) 0 (by decide) (hts _ q835) (fun _ h9 => h9) rfl hname rfl (by decide +kernel) (rfl) (rfl) (Nat.le_of_ble_eq_true rfl) dJ22_init_2_23 (fun H_1 locs h_new hch hS => ?_)
    have sz_H_1 := hch.1
    clear hch
    have hO : gO z true RJ22 TJ22 6 H_1 a [.int 1, .null, .int 0, .int 0, .int 0, .int 0] := h_new
    replace hl : lv_has ls 4 [(0, .ref a), (1, .long (lN v.natAbs))] := by
      rw [lN_lI, show ((v.natAbs : Nat) : Int) = v by omega]
      exact hl
    refine lv_lload_n hx hb dJ22_init_2_26 rfl (lv_at hl 1 rfl) ?_
    refine lv_bipush (v := 32) hx hb dJ22_init_2_27 (by decide) ?_
    refine lv_lushr hx hb dJ22_init_2_29 rfl ?_
    refine g_topl (v := lN (v.natAbs / 4294967296)) (lN_shr32 (a := v.natAbs) (by omega)) ?_
    refine lv_l2i hx hb dJ22_init_2_30 rfl ?_
    refine g_topi (v := nI (v.natAbs / 4294967296)) (ai_l2i (rfl)) ?_
    refine lv_istore_n hx hb dJ22_init_2_31 rfl hl (by decide) rfl (fun ls hl => ?_)
    have hl : lv_has ls 4 [(3, .int (nI (v.natAbs / 4294967296))), (0, .ref a), (1, .long (lN v.natAbs))] := hl
    refine lv_iload_n hx hb dJ22_init_2_32 rfl (lv_at hl 0 rfl) ?_
    refine lv_if_ne (tgt := 54) hx hb dJ22_init_2_33 (by decide) (fun c_33 => ?_) (fun c_33 => ?_)
    · skip
      have c_33 := mt (ai_eq (a := (v.natAbs / 4294967296)) (b := 0) (rfl) (rfl) (by omega) (by omega)).mpr c_33
      refine lv_aload_n hx hb dJ22_init_2_54 rfl (lv_at hl 1 rfl) ?_
      refine lv_iconst (v := 2) hx hb dJ22_init_2_55 (by decide) ?_
      refine gw_newa (atype := .int) (ty := .int) (N' := 2) hx hb (hts _ q990) rfl hal hS (rfl) (by omega) (by decide) (by first | omega | (dsimp only; omega)) (by first | omega | (dsimp only; omega)) dJ22_init_2_56 (fun qb H_2 eqb zqb hgx h_qb hS => ?_)
      have hO := hO.x hgx
      have h_qb : gI z true .int H_2 qb 2 (fun _ => 0) := h_qb
      have h_qb : gI z true .int H_2 qb 2 (dI (fun _ => 0)) := h_qb
      refine gw_putF (C := RJ22) (T := TJ22) (N := 6) (ty := (.array .int)) (v := .ref qb) hx hb hts in_J22 tyJ22 tyJ22_ok nmJ22 (hts _ q819) hown hal hO hS (by have hsz := hS.1; (try dsimp only [gfr]) <;> omega) 1 (by decide) (hts _ q837) (fun _ h9 => h9) rfl hname rfl (by decide +kernel) (rfl) (rfl) (Nat.le_of_ble_eq_true rfl) dJ22_init_2_58 (fun H_3 locs h_new hch hS => ?_)
      have h_qb := h_qb.ch hch (by omega)
      have sz_H_3 := hch.1
      clear hch
      have hO : gO z true RJ22 TJ22 6 H_3 a [.int 1, .ref qb, .int 0, .int 0, .int 0, .int 0] := h_new
      refine lv_aload_n hx hb dJ22_init_2_61 rfl (lv_at hl 1 rfl) ?_
      refine gw_get (C := RJ22) (T := TJ22) (N := 6) (v := .ref qb) hx hb hts in_J22 hown hal hO 1 (by decide) (hts _ q837) (fun _ h9 => h9) rfl dJ22_init_2_62 ?_
      refine lv_iconst (v := 0) hx hb dJ22_init_2_65 (by decide) ?_
      refine lv_iload_n hx hb dJ22_init_2_66 rfl (lv_at hl 0 rfl) ?_
      refine gw_iast (f := (dI (fun _ => 0))) hx hb hal h_qb hS (by have hsz := hS.1; (try dsimp only [gfr]) <;> omega) 0 (rfl) (by omega) (by omega) dJ22_init_2_67 (fun H_4 locs h_new hch hS => ?_)
      have hO := hO.ch hch (by omega)
      have sz_H_4 := hch.1
      clear hch
      have h_qb : gI z true .int H_4 qb 2 (upd (dI (fun _ => 0)) 0 (nI (v.natAbs / 4294967296))) := h_new
      replace h_qb : gI z true .int H_4 qb 2 (dI (dup (fun _ => 0) 0 ((v.natAbs / 4294967296) % 4294967296))) := by
        have q := h_qb
        rw [dI_put] at q
        exact q
      have bd_5 : ∀ i, (dup (fun _ => 0) 0 ((v.natAbs / 4294967296) % 4294967296)) i < 4294967296 := dup_lt (fun _ => by decide) (Nat.mod_lt _ (by decide))
      refine lv_aload_n hx hb dJ22_init_2_68 rfl (lv_at hl 1 rfl) ?_
      refine gw_get (C := RJ22) (T := TJ22) (N := 6) (v := .ref qb) hx hb hts in_J22 hown hal hO 1 (by decide) (hts _ q837) (fun _ h9 => h9) rfl dJ22_init_2_69 ?_
      refine lv_iconst (v := 1) hx hb dJ22_init_2_72 (by decide) ?_
      refine lv_lload_n hx hb dJ22_init_2_73 rfl (lv_at hl 2 rfl) ?_
      refine lv_l2i hx hb dJ22_init_2_74 rfl ?_
      refine g_topi (v := nI v.natAbs) (ai_l2i (rfl)) ?_
      refine gw_iast (f := (dI (dup (fun _ => 0) 0 ((v.natAbs / 4294967296) % 4294967296)))) hx hb hal h_qb hS (by have hsz := hS.1; (try dsimp only [gfr]) <;> omega) 1 (rfl) (by omega) (by omega) dJ22_init_2_75 (fun H_6 locs h_new hch hS => ?_)
      have hO := hO.ch hch (by omega)
      have sz_H_6 := hch.1
      clear hch
      have h_qb : gI z true .int H_6 qb 2 (upd (dI (dup (fun _ => 0) 0 ((v.natAbs / 4294967296) % 4294967296))) 1 (nI v.natAbs)) := h_new
      replace h_qb : gI z true .int H_6 qb 2 (dI (dup (dup (fun _ => 0) 0 ((v.natAbs / 4294967296) % 4294967296)) 1 (v.natAbs % 4294967296))) := by
        have q := h_qb
        rw [dI_put] at q
        exact q
      have bd_7 : ∀ i, (dup (dup (fun _ => 0) 0 ((v.natAbs / 4294967296) % 4294967296)) 1 (v.natAbs % 4294967296)) i < 4294967296 := dup_lt bd_5 (Nat.mod_lt _ (by decide))
      refine g_vret hx hb hr hlocks hS (by first | omega | (dsimp only; omega)) (by first | omega | (dsimp only; omega)) ?_ dJ22_init_2_76
      rw [← (show sgI v = 1 from sg_pos (by omega))] at hO
      refine ⟨qb, 2, _, by omega, ⟨0, 0, 0, 0, hO, h_qb, bd_7, ?_, fun _ => ?_, by decide, Or.inl ⟨rfl, rfl⟩, Or.inl ⟨rfl, rfl⟩⟩, by decide⟩
      · show (0 * 4294967296 + _) * 4294967296 + _ = _
        simp [dup]
        omega
      · rw [dup_n (by omega), dup_s]; omega
    · skip
      have c_33 := (ai_eq (a := (v.natAbs / 4294967296)) (b := 0) (rfl) (rfl) (by omega) (by omega)).mp c_33
      refine lv_aload_n hx hb dJ22_init_2_36 rfl (lv_at hl 1 rfl) ?_
      refine lv_iconst (v := 1) hx hb dJ22_init_2_37 (by decide) ?_
      refine gw_newa (atype := .int) (ty := .int) (N' := 1) hx hb (hts _ q990) rfl hal hS (rfl) (by omega) (by decide) (by first | omega | (dsimp only; omega)) (by first | omega | (dsimp only; omega)) dJ22_init_2_38 (fun qa H_8 eqa zqa hgx h_qa hS => ?_)
      have hO := hO.x hgx
      have h_qa : gI z true .int H_8 qa 1 (fun _ => 0) := h_qa
      have h_qa : gI z true .int H_8 qa 1 (dI (fun _ => 0)) := h_qa
      refine gw_putF (C := RJ22) (T := TJ22) (N := 6) (ty := (.array .int)) (v := .ref qa) hx hb hts in_J22 tyJ22 tyJ22_ok nmJ22 (hts _ q819) hown hal hO hS (by have hsz := hS.1; (try dsimp only [gfr]) <;> omega) 1 (by decide) (hts _ q837) (fun _ h9 => h9) rfl hname rfl (by decide +kernel) (rfl) (rfl) (Nat.le_of_ble_eq_true rfl) dJ22_init_2_40 (fun H_9 locs h_new hch hS => ?_)
      have h_qa := h_qa.ch hch (by omega)
      have sz_H_9 := hch.1
      clear hch
      have hO : gO z true RJ22 TJ22 6 H_9 a [.int 1, .ref qa, .int 0, .int 0, .int 0, .int 0] := h_new
      refine lv_aload_n hx hb dJ22_init_2_43 rfl (lv_at hl 1 rfl) ?_
      refine gw_get (C := RJ22) (T := TJ22) (N := 6) (v := .ref qa) hx hb hts in_J22 hown hal hO 1 (by decide) (hts _ q837) (fun _ h9 => h9) rfl dJ22_init_2_44 ?_
      refine lv_iconst (v := 0) hx hb dJ22_init_2_47 (by decide) ?_
      refine lv_lload_n hx hb dJ22_init_2_48 rfl (lv_at hl 2 rfl) ?_
      refine lv_l2i hx hb dJ22_init_2_49 rfl ?_
      refine g_topi (v := nI v.natAbs) (ai_l2i (rfl)) ?_
      refine gw_iast (f := (dI (fun _ => 0))) hx hb hal h_qa hS (by have hsz := hS.1; (try dsimp only [gfr]) <;> omega) 0 (rfl) (by omega) (by omega) dJ22_init_2_50 (fun H_10 locs h_new hch hS => ?_)
      have hO := hO.ch hch (by omega)
      have sz_H_10 := hch.1
      clear hch
      have h_qa : gI z true .int H_10 qa 1 (upd (dI (fun _ => 0)) 0 (nI v.natAbs)) := h_new
      replace h_qa : gI z true .int H_10 qa 1 (dI (dup (fun _ => 0) 0 (v.natAbs % 4294967296))) := by
        have q := h_qa
        rw [dI_put] at q
        exact q
      have bd_11 : ∀ i, (dup (fun _ => 0) 0 (v.natAbs % 4294967296)) i < 4294967296 := dup_lt (fun _ => by decide) (Nat.mod_lt _ (by decide))
      refine lv_goto (tgt := 76) hx hb dJ22_init_2_51 (by decide) ?_
      refine g_vret hx hb hr hlocks hS (by first | omega | (dsimp only; omega)) (by first | omega | (dsimp only; omega)) ?_ dJ22_init_2_76
      rw [← (show sgI v = 1 from sg_pos (by omega))] at hO
      refine ⟨qa, 1, _, by omega, ⟨0, 0, 0, 0, hO, h_qa, bd_11, ?_, fun _ => ?_, by decide, Or.inl ⟨rfl, rfl⟩, Or.inl ⟨rfl, rfl⟩⟩, by decide⟩
      · show 0 * 4294967296 + _ = _
        rw [dup_s]
        omega
      · rw [dup_s]; omega
  · skip
    have c_7 := mt (ai_cge (a := v) (b := 0) (rfl) (by decide) (by omega) (by omega) (by omega) (by omega)).mpr c_7
    refine lv_lload_n hx hb dJ22_init_2_10 rfl (lv_at hl 1 rfl) ?_
    refine lv_lneg hx hb dJ22_init_2_11 ?_
    refine g_topl (v := lI (-v)) (ai_negLI (rfl)) ?_
    refine lv_lstore_n hx hb dJ22_init_2_12 rfl hl (by decide) rfl (fun ls hl => ?_)
    have hl : lv_has ls 4 [(1, .long (lI (-v))), (0, .ref a)] := hl
    refine lv_aload_n hx hb dJ22_init_2_13 rfl (lv_at hl 1 rfl) ?_
    refine lv_iconst (v := -1) hx hb dJ22_init_2_14 (by decide) ?_
    refine gw_putF (C := RJ22) (T := TJ22) (N := 6) (ty := .int) (v := .int (-1)) hx hb hts in_J22 tyJ22 tyJ22_ok nmJ22 (hts _ q819) hown hal hO hS (by have hsz := hS.1; (try dsimp only [gfr]) <;> omega) 0 (by decide) (hts _ q835) (fun _ h9 => h9) rfl hname rfl (by decide +kernel) (rfl) (rfl) (Nat.le_of_ble_eq_true rfl) dJ22_init_2_15 (fun H_12 locs h_new hch hS => ?_)
    have sz_H_12 := hch.1
    clear hch
    have hO : gO z true RJ22 TJ22 6 H_12 a [.int (-1), .null, .int 0, .int 0, .int 0, .int 0] := h_new
    refine lv_goto (tgt := 26) hx hb dJ22_init_2_18 (by decide) ?_
    replace hl : lv_has ls 4 [(1, .long (lN v.natAbs)), (0, .ref a)] := by
      rw [lN_lI, show ((v.natAbs : Nat) : Int) = -v by omega]
      exact hl
    refine lv_lload_n hx hb dJ22_init_2_26 rfl (lv_at hl 0 rfl) ?_
    refine lv_bipush (v := 32) hx hb dJ22_init_2_27 (by decide) ?_
    refine lv_lushr hx hb dJ22_init_2_29 rfl ?_
    refine g_topl (v := lN (v.natAbs / 4294967296)) (lN_shr32 (a := v.natAbs) (by omega)) ?_
    refine lv_l2i hx hb dJ22_init_2_30 rfl ?_
    refine g_topi (v := nI (v.natAbs / 4294967296)) (ai_l2i (rfl)) ?_
    refine lv_istore_n hx hb dJ22_init_2_31 rfl hl (by decide) rfl (fun ls hl => ?_)
    have hl : lv_has ls 4 [(3, .int (nI (v.natAbs / 4294967296))), (1, .long (lN v.natAbs)), (0, .ref a)] := hl
    refine lv_iload_n hx hb dJ22_init_2_32 rfl (lv_at hl 0 rfl) ?_
    refine lv_if_ne (tgt := 54) hx hb dJ22_init_2_33 (by decide) (fun c_33 => ?_) (fun c_33 => ?_)
    · skip
      have c_33 := mt (ai_eq (a := (v.natAbs / 4294967296)) (b := 0) (rfl) (rfl) (by omega) (by omega)).mpr c_33
      refine lv_aload_n hx hb dJ22_init_2_54 rfl (lv_at hl 2 rfl) ?_
      refine lv_iconst (v := 2) hx hb dJ22_init_2_55 (by decide) ?_
      refine gw_newa (atype := .int) (ty := .int) (N' := 2) hx hb (hts _ q990) rfl hal hS (rfl) (by omega) (by decide) (by first | omega | (dsimp only; omega)) (by first | omega | (dsimp only; omega)) dJ22_init_2_56 (fun qb H_13 eqb zqb hgx h_qb hS => ?_)
      have hO := hO.x hgx
      have h_qb : gI z true .int H_13 qb 2 (fun _ => 0) := h_qb
      have h_qb : gI z true .int H_13 qb 2 (dI (fun _ => 0)) := h_qb
      refine gw_putF (C := RJ22) (T := TJ22) (N := 6) (ty := (.array .int)) (v := .ref qb) hx hb hts in_J22 tyJ22 tyJ22_ok nmJ22 (hts _ q819) hown hal hO hS (by have hsz := hS.1; (try dsimp only [gfr]) <;> omega) 1 (by decide) (hts _ q837) (fun _ h9 => h9) rfl hname rfl (by decide +kernel) (rfl) (rfl) (Nat.le_of_ble_eq_true rfl) dJ22_init_2_58 (fun H_14 locs h_new hch hS => ?_)
      have h_qb := h_qb.ch hch (by omega)
      have sz_H_14 := hch.1
      clear hch
      have hO : gO z true RJ22 TJ22 6 H_14 a [.int (-1), .ref qb, .int 0, .int 0, .int 0, .int 0] := h_new
      refine lv_aload_n hx hb dJ22_init_2_61 rfl (lv_at hl 2 rfl) ?_
      refine gw_get (C := RJ22) (T := TJ22) (N := 6) (v := .ref qb) hx hb hts in_J22 hown hal hO 1 (by decide) (hts _ q837) (fun _ h9 => h9) rfl dJ22_init_2_62 ?_
      refine lv_iconst (v := 0) hx hb dJ22_init_2_65 (by decide) ?_
      refine lv_iload_n hx hb dJ22_init_2_66 rfl (lv_at hl 0 rfl) ?_
      refine gw_iast (f := (dI (fun _ => 0))) hx hb hal h_qb hS (by have hsz := hS.1; (try dsimp only [gfr]) <;> omega) 0 (rfl) (by omega) (by omega) dJ22_init_2_67 (fun H_15 locs h_new hch hS => ?_)
      have hO := hO.ch hch (by omega)
      have sz_H_15 := hch.1
      clear hch
      have h_qb : gI z true .int H_15 qb 2 (upd (dI (fun _ => 0)) 0 (nI (v.natAbs / 4294967296))) := h_new
      replace h_qb : gI z true .int H_15 qb 2 (dI (dup (fun _ => 0) 0 ((v.natAbs / 4294967296) % 4294967296))) := by
        have q := h_qb
        rw [dI_put] at q
        exact q
      have bd_16 : ∀ i, (dup (fun _ => 0) 0 ((v.natAbs / 4294967296) % 4294967296)) i < 4294967296 := dup_lt (fun _ => by decide) (Nat.mod_lt _ (by decide))
      refine lv_aload_n hx hb dJ22_init_2_68 rfl (lv_at hl 2 rfl) ?_
      refine gw_get (C := RJ22) (T := TJ22) (N := 6) (v := .ref qb) hx hb hts in_J22 hown hal hO 1 (by decide) (hts _ q837) (fun _ h9 => h9) rfl dJ22_init_2_69 ?_
      refine lv_iconst (v := 1) hx hb dJ22_init_2_72 (by decide) ?_
      refine lv_lload_n hx hb dJ22_init_2_73 rfl (lv_at hl 1 rfl) ?_
      refine lv_l2i hx hb dJ22_init_2_74 rfl ?_
      refine g_topi (v := nI v.natAbs) (ai_l2i (rfl)) ?_
      refine gw_iast (f := (dI (dup (fun _ => 0) 0 ((v.natAbs / 4294967296) % 4294967296)))) hx hb hal h_qb hS (by have hsz := hS.1; (try dsimp only [gfr]) <;> omega) 1 (rfl) (by omega) (by omega) dJ22_init_2_75 (fun H_17 locs h_new hch hS => ?_)
      have hO := hO.ch hch (by omega)
      have sz_H_17 := hch.1
      clear hch
      have h_qb : gI z true .int H_17 qb 2 (upd (dI (dup (fun _ => 0) 0 ((v.natAbs / 4294967296) % 4294967296))) 1 (nI v.natAbs)) := h_new
      replace h_qb : gI z true .int H_17 qb 2 (dI (dup (dup (fun _ => 0) 0 ((v.natAbs / 4294967296) % 4294967296)) 1 (v.natAbs % 4294967296))) := by
        have q := h_qb
        rw [dI_put] at q
        exact q
      have bd_18 : ∀ i, (dup (dup (fun _ => 0) 0 ((v.natAbs / 4294967296) % 4294967296)) 1 (v.natAbs % 4294967296)) i < 4294967296 := dup_lt bd_16 (Nat.mod_lt _ (by decide))
      refine g_vret hx hb hr hlocks hS (by first | omega | (dsimp only; omega)) (by first | omega | (dsimp only; omega)) ?_ dJ22_init_2_76
      rw [← (show sgI v = -1 from sg_neg (by omega))] at hO
      refine ⟨qb, 2, _, by omega, ⟨0, 0, 0, 0, hO, h_qb, bd_18, ?_, fun _ => ?_, by decide, Or.inl ⟨rfl, rfl⟩, Or.inl ⟨rfl, rfl⟩⟩, by decide⟩
      · show (0 * 4294967296 + _) * 4294967296 + _ = _
        simp [dup]
        omega
      · rw [dup_n (by omega), dup_s]; omega
    · skip
      have c_33 := (ai_eq (a := (v.natAbs / 4294967296)) (b := 0) (rfl) (rfl) (by omega) (by omega)).mp c_33
      refine lv_aload_n hx hb dJ22_init_2_36 rfl (lv_at hl 2 rfl) ?_
      refine lv_iconst (v := 1) hx hb dJ22_init_2_37 (by decide) ?_
      refine gw_newa (atype := .int) (ty := .int) (N' := 1) hx hb (hts _ q990) rfl hal hS (rfl) (by omega) (by decide) (by first | omega | (dsimp only; omega)) (by first | omega | (dsimp only; omega)) dJ22_init_2_38 (fun qa H_19 eqa zqa hgx h_qa hS => ?_)
      have hO := hO.x hgx
      have h_qa : gI z true .int H_19 qa 1 (fun _ => 0) := h_qa
      have h_qa : gI z true .int H_19 qa 1 (dI (fun _ => 0)) := h_qa
      refine gw_putF (C := RJ22) (T := TJ22) (N := 6) (ty := (.array .int)) (v := .ref qa) hx hb hts in_J22 tyJ22 tyJ22_ok nmJ22 (hts _ q819) hown hal hO hS (by have hsz := hS.1; (try dsimp only [gfr]) <;> omega) 1 (by decide) (hts _ q837) (fun _ h9 => h9) rfl hname rfl (by decide +kernel) (rfl) (rfl) (Nat.le_of_ble_eq_true rfl) dJ22_init_2_40 (fun H_20 locs h_new hch hS => ?_)
      have h_qa := h_qa.ch hch (by omega)
      have sz_H_20 := hch.1
      clear hch
      have hO : gO z true RJ22 TJ22 6 H_20 a [.int (-1), .ref qa, .int 0, .int 0, .int 0, .int 0] := h_new
      refine lv_aload_n hx hb dJ22_init_2_43 rfl (lv_at hl 2 rfl) ?_
      refine gw_get (C := RJ22) (T := TJ22) (N := 6) (v := .ref qa) hx hb hts in_J22 hown hal hO 1 (by decide) (hts _ q837) (fun _ h9 => h9) rfl dJ22_init_2_44 ?_
      refine lv_iconst (v := 0) hx hb dJ22_init_2_47 (by decide) ?_
      refine lv_lload_n hx hb dJ22_init_2_48 rfl (lv_at hl 1 rfl) ?_
      refine lv_l2i hx hb dJ22_init_2_49 rfl ?_
      refine g_topi (v := nI v.natAbs) (ai_l2i (rfl)) ?_
      refine gw_iast (f := (dI (fun _ => 0))) hx hb hal h_qa hS (by have hsz := hS.1; (try dsimp only [gfr]) <;> omega) 0 (rfl) (by omega) (by omega) dJ22_init_2_50 (fun H_21 locs h_new hch hS => ?_)
      have hO := hO.ch hch (by omega)
      have sz_H_21 := hch.1
      clear hch
      have h_qa : gI z true .int H_21 qa 1 (upd (dI (fun _ => 0)) 0 (nI v.natAbs)) := h_new
      replace h_qa : gI z true .int H_21 qa 1 (dI (dup (fun _ => 0) 0 (v.natAbs % 4294967296))) := by
        have q := h_qa
        rw [dI_put] at q
        exact q
      have bd_22 : ∀ i, (dup (fun _ => 0) 0 (v.natAbs % 4294967296)) i < 4294967296 := dup_lt (fun _ => by decide) (Nat.mod_lt _ (by decide))
      refine lv_goto (tgt := 76) hx hb dJ22_init_2_51 (by decide) ?_
      refine g_vret hx hb hr hlocks hS (by first | omega | (dsimp only; omega)) (by first | omega | (dsimp only; omega)) ?_ dJ22_init_2_76
      rw [← (show sgI v = -1 from sg_neg (by omega))] at hO
      refine ⟨qa, 1, _, by omega, ⟨0, 0, 0, 0, hO, h_qa, bd_22, ?_, fun _ => ?_, by decide, Or.inl ⟨rfl, rfl⟩, Or.inl ⟨rfl, rfl⟩⟩, by decide⟩
      · show 0 * 4294967296 + _ = _
        rw [dup_s]
        omega
      · rw [dup_s]; omega
set_option maxHeartbeats 1000000 in
theorem m_valueOf (l : Launch) (z : State) (H0 : Heap)  (v : Int) (k : Nat → Nat) (hv1 : -9223372036854775807 ≤ v) (hv2 : v ≤ 9223372036854775807) (hsb : sB z k (gfr H0) H0) : Met l yJ22_valueOf (ws_ yJ22_valueOf cJ22_valueOf 2 (some (.object "java/math/BigInteger"))) { frames := 3, cells := 2, slots := 8, locals := 55 } (gPc z H0 [.long (lI v)]) (gRr (gfr H0) H0 (fun r H1 => ∃ w m0 n d, bI z w H1 r m0 n d v ∧ n ≤ 2 ∧ (w = true → H0.size ≤ r ∧ H0.size ≤ m0))) 2 8 (gfr H0) := by
  refine g_start (by decide +kernel) (Nat.le_of_ble_eq_true rfl) ?_
  intro p e s m below meth c ls hx hb hr hlocks hml hown hname hts hwm hl
  have hown : s.vm.findClass "java/math/BigInteger" = some m.cls := hown
  have hal : z.vm.Alike s.vm := hwm.alike
  have hCF : CallFix p m c cJ22_valueOf 2 s [.long (lI v)].toArray lw_all "java/math/BigInteger" := ⟨hx, hb, hml, hown, hts⟩
  have hl : lv_has ls 2 [(0, .long (lI v))] := hl
  have hS : va_S (gfr H0) H0 H0 [] := va_S.rf
  refine lv_lload_n hx hb dJ22_valueOf_0 rfl (lv_at hl 0 rfl) ?_
  refine lv_lconst (v := 0) hx hb dJ22_valueOf_1 (by decide) ?_
  refine W.lcmp hx hb dJ22_valueOf_2 ?_
  refine lv_if_ne (tgt := 10) hx hb dJ22_valueOf_3 (by decide) (fun c_3 => ?_) (fun c_3 => ?_)
  · skip
    have c_3 := mt (ai_ceq (a := v) (b := 0) (rfl) (by decide) (by omega) (by omega) (by omega) (by omega)).mpr c_3
    refine lv_lload_n hx hb dJ22_valueOf_10 rfl (lv_at hl 0 rfl) ?_
    refine lv_lconst (v := 0) hx hb dJ22_valueOf_11 (by decide) ?_
    refine W.lcmp hx hb dJ22_valueOf_12 ?_
    refine lv_if_le (tgt := 31) hx hb dJ22_valueOf_13 (by decide) (fun c_13 => ?_) (fun c_13 => ?_)
    · skip
      have c_13 := (ai_cle (a := v) (b := 0) (rfl) (by decide) (by omega) (by omega) (by omega) (by omega)).mp c_13
      refine lv_lload_n hx hb dJ22_valueOf_31 rfl (lv_at hl 0 rfl) ?_
      refine lv_lconst (v := 0) hx hb dJ22_valueOf_32 (by decide) ?_
      refine W.lcmp hx hb dJ22_valueOf_33 ?_
      refine lv_if_ge (tgt := 53) hx hb dJ22_valueOf_34 (by decide) (fun c_34 => ?_) (fun c_34 => ?_)
      · skip
        have c_34 := (ai_cge (a := v) (b := 0) (rfl) (by decide) (by omega) (by omega) (by omega) (by omega)).mp c_34
        refine gw_new (C := RJ22) (T := TJ22) (N := 6) (fs := [.int 0, .null, .int 0, .int 0, .int 0, .int 0]) hx hb hts in_J22 tyJ22 tyJ22_ok hown hal (hts _ q818) (hts _ q819) (hts _ q83) hS (by decide +kernel) (by first | omega | (dsimp only; omega)) (by first | omega | (dsimp only; omega)) dJ22_valueOf_53 (fun qn H_1 eqn zqn hgx h_qn hS => ?_)
        refine lv_dup hx hb dJ22_valueOf_56 rfl ?_
        refine lv_lload_n hx hb dJ22_valueOf_57 rfl (lv_at hl 0 rfl) ?_
        have hsz := hS.1
        refine gcI1_v hCF hwm hl.1 (m_bigInitJ l z H_1 qn v (by omega) hv1 hv2 h_qn ) q1498 q1499 q83 q1500 rfl yd_J22_init_2 hS (fun q h => by have hsz := hS.1; (try dsimp only [gfr] at h ⊢) <;> omega) ⟨Nat.le_of_ble_eq_true rfl, Nat.le_of_ble_eq_true rfl⟩ ⟨by first | omega | (dsimp only; omega), by first | omega | (dsimp only; omega)⟩ (Nat.le_of_ble_eq_true rfl) dJ22_valueOf_58 (fun H_2 locs hp hex hS => ?_)
        have sz_H_2 : H_1.size ≤ H_2.size := hex.1
        obtain ⟨m0, n, d, hm0, hN, hn2⟩ := hp
        refine g_aret hx hb hr hlocks (Or.inl ⟨_, rfl⟩) hS (by first | omega | (dsimp only; omega)) (by first | omega | (dsimp only; omega)) ?_ dJ22_valueOf_61
        exact ⟨true, m0, n, d, hN, hn2, fun _ => ⟨by omega, by omega⟩⟩
      · skip
        have c_34 := mt (ai_cge (a := v) (b := 0) (rfl) (by decide) (by omega) (by omega) (by omega) (by omega)).mpr c_34
        refine lv_lload_n hx hb dJ22_valueOf_37 rfl (lv_at hl 0 rfl) ?_
        refine lv_ldc2 (v := -16) hx hb hown (hts _ q1497) dJ22_valueOf_38 ?_
        refine W.lcmp hx hb dJ22_valueOf_41 ?_
        refine lv_if_lt (tgt := 53) hx hb dJ22_valueOf_42 (by decide) (fun c_42 => ?_) (fun c_42 => ?_)
        · skip
          have c_42 := (ai_clt (a := v) (b := (-16)) (rfl) (by decide) (by omega) (by omega) (by omega) (by omega)).mp c_42
          refine gw_new (C := RJ22) (T := TJ22) (N := 6) (fs := [.int 0, .null, .int 0, .int 0, .int 0, .int 0]) hx hb hts in_J22 tyJ22 tyJ22_ok hown hal (hts _ q818) (hts _ q819) (hts _ q83) hS (by decide +kernel) (by first | omega | (dsimp only; omega)) (by first | omega | (dsimp only; omega)) dJ22_valueOf_53 (fun qn H_4 eqn zqn hgx h_qn hS => ?_)
          refine lv_dup hx hb dJ22_valueOf_56 rfl ?_
          refine lv_lload_n hx hb dJ22_valueOf_57 rfl (lv_at hl 0 rfl) ?_
          have hsz := hS.1
          refine gcI1_v hCF hwm hl.1 (m_bigInitJ l z H_4 qn v (by omega) hv1 hv2 h_qn ) q1498 q1499 q83 q1500 rfl yd_J22_init_2 hS (fun q h => by have hsz := hS.1; (try dsimp only [gfr] at h ⊢) <;> omega) ⟨Nat.le_of_ble_eq_true rfl, Nat.le_of_ble_eq_true rfl⟩ ⟨by first | omega | (dsimp only; omega), by first | omega | (dsimp only; omega)⟩ (Nat.le_of_ble_eq_true rfl) dJ22_valueOf_58 (fun H_5 locs hp hex hS => ?_)
          have sz_H_5 : H_4.size ≤ H_5.size := hex.1
          obtain ⟨m0, n, d, hm0, hN, hn2⟩ := hp
          refine g_aret hx hb hr hlocks (Or.inl ⟨_, rfl⟩) hS (by first | omega | (dsimp only; omega)) (by first | omega | (dsimp only; omega)) ?_ dJ22_valueOf_61
          exact ⟨true, m0, n, d, hN, hn2, fun _ => ⟨by omega, by omega⟩⟩
        · skip
          have c_42 := mt (ai_clt (a := v) (b := (-16)) (rfl) (by decide) (by omega) (by omega) (by omega) (by omega)).mpr c_42
          refine gw_gets  hx hb hal hsb.1.2.2.2 hS hown (hts _ q1284) (fun _ h9 => h9) dJ22_valueOf_45 ?_
          refine lv_lload_n hx hb dJ22_valueOf_48 rfl (lv_at hl 0 rfl) ?_
          refine lv_lneg hx hb dJ22_valueOf_49 ?_
          refine g_topl (v := lI (-v)) (ai_negLI (rfl)) ?_
          refine lv_l2i hx hb dJ22_valueOf_50 rfl ?_
          refine g_topi (v := iI (-v)) (ai_l2iI (rfl)) ?_
          refine gw_aald hx hb hal (hsb.cur hS).2.1.2 v.natAbs (by rw [nI_iI]; exact congrArg iI (by omega)) (by omega) (by omega) (r := (k (60 + v.natAbs))) (if_neg (by omega)) dJ22_valueOf_51 ?_
          refine g_aret hx hb hr hlocks (Or.inl ⟨_, rfl⟩) hS (by first | omega | (dsimp only; omega)) (by first | omega | (dsimp only; omega)) ?_ dJ22_valueOf_52
          have q := ((hsb.cur hS).2.2.1.2.2 v.natAbs (by omega) (by omega)).2
          rw [show -((v.natAbs : Nat) : Int) = v by omega] at q
          exact ⟨false, _, 1, _, q, by decide, fun q => by cases q⟩
    · skip
      have c_13 := mt (ai_cle (a := v) (b := 0) (rfl) (by decide) (by omega) (by omega) (by omega) (by omega)).mpr c_13
      refine lv_lload_n hx hb dJ22_valueOf_16 rfl (lv_at hl 0 rfl) ?_
      refine lv_ldc2 (v := 16) hx hb hown (hts _ q1494) dJ22_valueOf_17 ?_
      refine W.lcmp hx hb dJ22_valueOf_20 ?_
      refine lv_if_gt (tgt := 31) hx hb dJ22_valueOf_21 (by decide) (fun c_21 => ?_) (fun c_21 => ?_)
      · skip
        have c_21 := (ai_cgt (a := v) (b := 16) (rfl) (by decide) (by omega) (by omega) (by omega) (by omega)).mp c_21
        refine lv_lload_n hx hb dJ22_valueOf_31 rfl (lv_at hl 0 rfl) ?_
        refine lv_lconst (v := 0) hx hb dJ22_valueOf_32 (by decide) ?_
        refine W.lcmp hx hb dJ22_valueOf_33 ?_
        refine lv_if_ge (tgt := 53) hx hb dJ22_valueOf_34 (by decide) (fun c_34 => ?_) (fun c_34 => ?_)
        · skip
          have c_34 := (ai_cge (a := v) (b := 0) (rfl) (by decide) (by omega) (by omega) (by omega) (by omega)).mp c_34
          refine gw_new (C := RJ22) (T := TJ22) (N := 6) (fs := [.int 0, .null, .int 0, .int 0, .int 0, .int 0]) hx hb hts in_J22 tyJ22 tyJ22_ok hown hal (hts _ q818) (hts _ q819) (hts _ q83) hS (by decide +kernel) (by first | omega | (dsimp only; omega)) (by first | omega | (dsimp only; omega)) dJ22_valueOf_53 (fun qn H_7 eqn zqn hgx h_qn hS => ?_)
          refine lv_dup hx hb dJ22_valueOf_56 rfl ?_
          refine lv_lload_n hx hb dJ22_valueOf_57 rfl (lv_at hl 0 rfl) ?_
          have hsz := hS.1
          refine gcI1_v hCF hwm hl.1 (m_bigInitJ l z H_7 qn v (by omega) hv1 hv2 h_qn ) q1498 q1499 q83 q1500 rfl yd_J22_init_2 hS (fun q h => by have hsz := hS.1; (try dsimp only [gfr] at h ⊢) <;> omega) ⟨Nat.le_of_ble_eq_true rfl, Nat.le_of_ble_eq_true rfl⟩ ⟨by first | omega | (dsimp only; omega), by first | omega | (dsimp only; omega)⟩ (Nat.le_of_ble_eq_true rfl) dJ22_valueOf_58 (fun H_8 locs hp hex hS => ?_)
          have sz_H_8 : H_7.size ≤ H_8.size := hex.1
          obtain ⟨m0, n, d, hm0, hN, hn2⟩ := hp
          refine g_aret hx hb hr hlocks (Or.inl ⟨_, rfl⟩) hS (by first | omega | (dsimp only; omega)) (by first | omega | (dsimp only; omega)) ?_ dJ22_valueOf_61
          exact ⟨true, m0, n, d, hN, hn2, fun _ => ⟨by omega, by omega⟩⟩
        · skip
          have c_34 := mt (ai_cge (a := v) (b := 0) (rfl) (by decide) (by omega) (by omega) (by omega) (by omega)).mpr c_34
          refine lv_lload_n hx hb dJ22_valueOf_37 rfl (lv_at hl 0 rfl) ?_
          refine lv_ldc2 (v := -16) hx hb hown (hts _ q1497) dJ22_valueOf_38 ?_
          refine W.lcmp hx hb dJ22_valueOf_41 ?_
          refine lv_if_lt (tgt := 53) hx hb dJ22_valueOf_42 (by decide) (fun c_42 => ?_) (fun c_42 => ?_)
          · skip
            have c_42 := (ai_clt (a := v) (b := (-16)) (rfl) (by decide) (by omega) (by omega) (by omega) (by omega)).mp c_42
            refine gw_new (C := RJ22) (T := TJ22) (N := 6) (fs := [.int 0, .null, .int 0, .int 0, .int 0, .int 0]) hx hb hts in_J22 tyJ22 tyJ22_ok hown hal (hts _ q818) (hts _ q819) (hts _ q83) hS (by decide +kernel) (by first | omega | (dsimp only; omega)) (by first | omega | (dsimp only; omega)) dJ22_valueOf_53 (fun qn H_10 eqn zqn hgx h_qn hS => ?_)
            refine lv_dup hx hb dJ22_valueOf_56 rfl ?_
            refine lv_lload_n hx hb dJ22_valueOf_57 rfl (lv_at hl 0 rfl) ?_
            have hsz := hS.1
            refine gcI1_v hCF hwm hl.1 (m_bigInitJ l z H_10 qn v (by omega) hv1 hv2 h_qn ) q1498 q1499 q83 q1500 rfl yd_J22_init_2 hS (fun q h => by have hsz := hS.1; (try dsimp only [gfr] at h ⊢) <;> omega) ⟨Nat.le_of_ble_eq_true rfl, Nat.le_of_ble_eq_true rfl⟩ ⟨by first | omega | (dsimp only; omega), by first | omega | (dsimp only; omega)⟩ (Nat.le_of_ble_eq_true rfl) dJ22_valueOf_58 (fun H_11 locs hp hex hS => ?_)
            have sz_H_11 : H_10.size ≤ H_11.size := hex.1
            obtain ⟨m0, n, d, hm0, hN, hn2⟩ := hp
            refine g_aret hx hb hr hlocks (Or.inl ⟨_, rfl⟩) hS (by first | omega | (dsimp only; omega)) (by first | omega | (dsimp only; omega)) ?_ dJ22_valueOf_61
            exact ⟨true, m0, n, d, hN, hn2, fun _ => ⟨by omega, by omega⟩⟩
          · skip
            have c_42 := mt (ai_clt (a := v) (b := (-16)) (rfl) (by decide) (by omega) (by omega) (by omega) (by omega)).mpr c_42
            refine gw_gets  hx hb hal hsb.1.2.2.2 hS hown (hts _ q1284) (fun _ h9 => h9) dJ22_valueOf_45 ?_
            refine lv_lload_n hx hb dJ22_valueOf_48 rfl (lv_at hl 0 rfl) ?_
            refine lv_lneg hx hb dJ22_valueOf_49 ?_
            refine g_topl (v := lI (-v)) (ai_negLI (rfl)) ?_
            refine lv_l2i hx hb dJ22_valueOf_50 rfl ?_
            refine g_topi (v := iI (-v)) (ai_l2iI (rfl)) ?_
            refine gw_aald hx hb hal (hsb.cur hS).2.1.2 v.natAbs (by rw [nI_iI]; exact congrArg iI (by omega)) (by omega) (by omega) (r := (k (60 + v.natAbs))) (if_neg (by omega)) dJ22_valueOf_51 ?_
            refine g_aret hx hb hr hlocks (Or.inl ⟨_, rfl⟩) hS (by first | omega | (dsimp only; omega)) (by first | omega | (dsimp only; omega)) ?_ dJ22_valueOf_52
            have q := ((hsb.cur hS).2.2.1.2.2 v.natAbs (by omega) (by omega)).2
            rw [show -((v.natAbs : Nat) : Int) = v by omega] at q
            exact ⟨false, _, 1, _, q, by decide, fun q => by cases q⟩
      · skip
        have c_21 := mt (ai_cgt (a := v) (b := 16) (rfl) (by decide) (by omega) (by omega) (by omega) (by omega)).mpr c_21
        refine gw_gets  hx hb hal hsb.1.2.2.1 hS hown (hts _ q1495) (fun _ h9 => h9) dJ22_valueOf_24 ?_
        refine lv_lload_n hx hb dJ22_valueOf_27 rfl (lv_at hl 0 rfl) ?_
        refine lv_l2i hx hb dJ22_valueOf_28 rfl ?_
        refine g_topi (v := iI v) (ai_l2iI (rfl)) ?_
        refine gw_aald hx hb hal (hsb.cur hS).2.1.1 v.natAbs (by rw [nI_iI]; exact congrArg iI (by omega)) (by omega) (by omega) (r := (k (20 + v.natAbs))) (if_neg (by omega)) dJ22_valueOf_29 ?_
        refine g_aret hx hb hr hlocks (Or.inl ⟨_, rfl⟩) hS (by first | omega | (dsimp only; omega)) (by first | omega | (dsimp only; omega)) ?_ dJ22_valueOf_30
        have q := ((hsb.cur hS).2.2.1.2.2 v.natAbs (by omega) (by omega)).1
        rw [show ((v.natAbs : Nat) : Int) = v by omega] at q
        exact ⟨false, _, 1, _, q, by decide, fun q => by cases q⟩
  · skip
    have c_3 := (ai_ceq (a := v) (b := 0) (rfl) (by decide) (by omega) (by omega) (by omega) (by omega)).mp c_3
    refine gw_gets  hx hb hal hsb.1.1 hS hown (hts _ q1206) (fun _ h9 => h9) dJ22_valueOf_6 ?_
    refine g_aret hx hb hr hlocks (Or.inl ⟨_, rfl⟩) hS (by first | omega | (dsimp only; omega)) (by first | omega | (dsimp only; omega)) ?_ dJ22_valueOf_9
    have e0 : v = 0 := by omega
    subst e0
    exact ⟨false, k 18, 0, _, (hsb.cur hS).2.2.1.1, by decide, fun q => by cases q⟩
