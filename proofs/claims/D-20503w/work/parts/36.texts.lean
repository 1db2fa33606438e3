/-! ## walks (written by tools) -/
set_option maxRecDepth 100000
def dkwJ5_valueOf_0 : List UInt8 := [42, 199, 0, 9, 19, 3, 237, 167, 0, 7, 42, 182, 3, 239, 176]
abbrev dktJ5_valueOf_0 : List UInt8 := dkwJ5_valueOf_0 ++ []
theorem dksJ5_valueOf_0 : cJ5_valueOf.data.toList.drop 0 = dktJ5_valueOf_0 := by decide +kernel
theorem dJ5_valueOf_0 : decode cJ5_valueOf 0 = .ok (.aload_n 0, 1) := dk_42 (dk_at dksJ5_valueOf_0 0 rfl rfl)
theorem dJ5_valueOf_1 : decode cJ5_valueOf 1 = .ok (.ifnonnull 9, 3) := dk_199 0 9 (dk_at dksJ5_valueOf_0 1 rfl rfl)
theorem dJ5_valueOf_4 : decode cJ5_valueOf 4 = .ok (.ldc_w 1005, 3) := dk_19 3 237 (dk_at dksJ5_valueOf_0 4 rfl rfl)
theorem dJ5_valueOf_7 : decode cJ5_valueOf 7 = .ok (.goto 7, 3) := dk_167 0 7 (dk_at dksJ5_valueOf_0 7 rfl rfl)
theorem dJ5_valueOf_10 : decode cJ5_valueOf 10 = .ok (.aload_n 0, 1) := dk_42 (dk_at dksJ5_valueOf_0 10 rfl rfl)
theorem dJ5_valueOf_11 : decode cJ5_valueOf 11 = .ok (.invokevirtual 1007, 3) := dk_182 3 239 (dk_at dksJ5_valueOf_0 11 rfl rfl)
theorem dJ5_valueOf_14 : decode cJ5_valueOf 14 = .ok (.areturn, 1) := dk_176 (dk_at dksJ5_valueOf_0 14 rfl rfl)
def dkwJ7_append_5_0 : List UInt8 := [42, 43, 184, 0, 17, 182, 0, 23, 176]
abbrev dktJ7_append_5_0 : List UInt8 := dkwJ7_append_5_0 ++ []
theorem dksJ7_append_5_0 : cJ7_append_5.data.toList.drop 0 = dktJ7_append_5_0 := by decide +kernel
theorem dJ7_append_5_0 : decode cJ7_append_5 0 = .ok (.aload_n 0, 1) := dk_42 (dk_at dksJ7_append_5_0 0 rfl rfl)
theorem dJ7_append_5_1 : decode cJ7_append_5 1 = .ok (.aload_n 1, 1) := dk_43 (dk_at dksJ7_append_5_0 1 rfl rfl)
theorem dJ7_append_5_2 : decode cJ7_append_5 2 = .ok (.invokestatic 17, 3) := dk_184 0 17 (dk_at dksJ7_append_5_0 2 rfl rfl)
theorem dJ7_append_5_5 : decode cJ7_append_5 5 = .ok (.invokevirtual 23, 3) := dk_182 0 23 (dk_at dksJ7_append_5_0 5 rfl rfl)
theorem dJ7_append_5_8 : decode cJ7_append_5 8 = .ok (.areturn, 1) := dk_176 (dk_at dksJ7_append_5_0 8 rfl rfl)
def dkwJ6_init_2 : List UInt8 := [167, 0, 7, 29, 184, 0, 26, 181, 0, 15, 42, 43, 182, 0, 43, 87, 177]
abbrev dktJ6_init_2 : List UInt8 := dkwJ6_init_2 ++ []
def dkwJ6_init_1 : List UInt8 := [62, 43, 182, 0, 40, 54, 4, 42, 21, 4, 181, 0, 22, 42, 21, 4, 154, 0, 9, 29, 188, 8]
abbrev dktJ6_init_1 : List UInt8 := dkwJ6_init_1 ++ dktJ6_init_2
def dkwJ6_init_0 : List UInt8 := [42, 183, 0, 3, 43, 182, 0, 32, 61, 28, 18, 38, 162, 0, 10, 28, 16, 16, 96, 167, 0, 5, 18, 39]
abbrev dktJ6_init_0 : List UInt8 := dkwJ6_init_0 ++ dktJ6_init_1
theorem dksJ6_init_0 : cJ6_init.data.toList.drop 0 = dktJ6_init_0 := by decide +kernel
theorem dksJ6_init_1 : cJ6_init.data.toList.drop 24 = dktJ6_init_1 := dk_seg dksJ6_init_0 24 rfl rfl
theorem dksJ6_init_2 : cJ6_init.data.toList.drop 46 = dktJ6_init_2 := dk_seg dksJ6_init_1 22 rfl rfl
theorem dJ6_init_0 : decode cJ6_init 0 = .ok (.aload_n 0, 1) := dk_42 (dk_at dksJ6_init_0 0 rfl rfl)
theorem dJ6_init_1 : decode cJ6_init 1 = .ok (.invokespecial 3, 3) := dk_183 0 3 (dk_at dksJ6_init_0 1 rfl rfl)
theorem dJ6_init_4 : decode cJ6_init 4 = .ok (.aload_n 1, 1) := dk_43 (dk_at dksJ6_init_0 4 rfl rfl)
theorem dJ6_init_5 : decode cJ6_init 5 = .ok (.invokevirtual 32, 3) := dk_182 0 32 (dk_at dksJ6_init_0 5 rfl rfl)
theorem dJ6_init_8 : decode cJ6_init 8 = .ok (.istore_n 2, 1) := dk_61 (dk_at dksJ6_init_0 8 rfl rfl)
theorem dJ6_init_9 : decode cJ6_init 9 = .ok (.iload_n 2, 1) := dk_28 (dk_at dksJ6_init_0 9 rfl rfl)
theorem dJ6_init_10 : decode cJ6_init 10 = .ok (.ldc 38, 2) := dk_18 38 (dk_at dksJ6_init_0 10 rfl rfl)
theorem dJ6_init_12 : decode cJ6_init 12 = .ok (.if_icmp .ge 10, 3) := dk_162 0 10 (dk_at dksJ6_init_0 12 rfl rfl)
theorem dJ6_init_15 : decode cJ6_init 15 = .ok (.iload_n 2, 1) := dk_28 (dk_at dksJ6_init_0 15 rfl rfl)
theorem dJ6_init_16 : decode cJ6_init 16 = .ok (.bipush 16, 2) := dk_16 16 (dk_at dksJ6_init_0 16 rfl rfl)
theorem dJ6_init_18 : decode cJ6_init 18 = .ok (.iadd, 1) := dk_96 (dk_at dksJ6_init_0 18 rfl rfl)
theorem dJ6_init_19 : decode cJ6_init 19 = .ok (.goto 5, 3) := dk_167 0 5 (dk_at dksJ6_init_0 19 rfl rfl)
theorem dJ6_init_22 : decode cJ6_init 22 = .ok (.ldc 39, 2) := dk_18 39 (dk_at dksJ6_init_0 22 rfl rfl)
theorem dJ6_init_24 : decode cJ6_init 24 = .ok (.istore_n 3, 1) := dk_62 (dk_at dksJ6_init_1 0 rfl rfl)
theorem dJ6_init_25 : decode cJ6_init 25 = .ok (.aload_n 1, 1) := dk_43 (dk_at dksJ6_init_1 1 rfl rfl)
theorem dJ6_init_26 : decode cJ6_init 26 = .ok (.invokevirtual 40, 3) := dk_182 0 40 (dk_at dksJ6_init_1 2 rfl rfl)
theorem dJ6_init_29 : decode cJ6_init 29 = .ok (.istore 4, 2) := dk_54 4 (dk_at dksJ6_init_1 5 rfl rfl)
theorem dJ6_init_31 : decode cJ6_init 31 = .ok (.aload_n 0, 1) := dk_42 (dk_at dksJ6_init_1 7 rfl rfl)
theorem dJ6_init_32 : decode cJ6_init 32 = .ok (.iload 4, 2) := dk_21 4 (dk_at dksJ6_init_1 8 rfl rfl)
theorem dJ6_init_34 : decode cJ6_init 34 = .ok (.putfield 22, 3) := dk_181 0 22 (dk_at dksJ6_init_1 10 rfl rfl)
theorem dJ6_init_37 : decode cJ6_init 37 = .ok (.aload_n 0, 1) := dk_42 (dk_at dksJ6_init_1 13 rfl rfl)
theorem dJ6_init_38 : decode cJ6_init 38 = .ok (.iload 4, 2) := dk_21 4 (dk_at dksJ6_init_1 14 rfl rfl)
theorem dJ6_init_40 : decode cJ6_init 40 = .ok (.ifCond .ne 9, 3) := dk_154 0 9 (dk_at dksJ6_init_1 16 rfl rfl)
theorem dJ6_init_43 : decode cJ6_init 43 = .ok (.iload_n 3, 1) := dk_29 (dk_at dksJ6_init_1 19 rfl rfl)
theorem dJ6_init_44 : decode cJ6_init 44 = .ok (.newarray .byte, 2) := dk_188_8 (dk_at dksJ6_init_1 20 rfl rfl)
theorem dJ6_init_46 : decode cJ6_init 46 = .ok (.goto 7, 3) := dk_167 0 7 (dk_at dksJ6_init_2 0 rfl rfl)
theorem dJ6_init_49 : decode cJ6_init 49 = .ok (.iload_n 3, 1) := dk_29 (dk_at dksJ6_init_2 3 rfl rfl)
theorem dJ6_init_50 : decode cJ6_init 50 = .ok (.invokestatic 26, 3) := dk_184 0 26 (dk_at dksJ6_init_2 4 rfl rfl)
theorem dJ6_init_53 : decode cJ6_init 53 = .ok (.putfield 15, 3) := dk_181 0 15 (dk_at dksJ6_init_2 7 rfl rfl)
theorem dJ6_init_56 : decode cJ6_init 56 = .ok (.aload_n 0, 1) := dk_42 (dk_at dksJ6_init_2 10 rfl rfl)
theorem dJ6_init_57 : decode cJ6_init 57 = .ok (.aload_n 1, 1) := dk_43 (dk_at dksJ6_init_2 11 rfl rfl)
theorem dJ6_init_58 : decode cJ6_init 58 = .ok (.invokevirtual 43, 3) := dk_182 0 43 (dk_at dksJ6_init_2 12 rfl rfl)
theorem dJ6_init_61 : decode cJ6_init 61 = .ok (.pop, 1) := dk_87 (dk_at dksJ6_init_2 15 rfl rfl)
theorem dJ6_init_62 : decode cJ6_init 62 = .ok (.return_, 1) := dk_177 (dk_at dksJ6_init_2 16 rfl rfl)
def dkwJ7_init_0 : List UInt8 := [42, 43, 183, 0, 7, 177]
abbrev dktJ7_init_0 : List UInt8 := dkwJ7_init_0 ++ []
theorem dksJ7_init_0 : cJ7_init.data.toList.drop 0 = dktJ7_init_0 := by decide +kernel
theorem dJ7_init_0 : decode cJ7_init 0 = .ok (.aload_n 0, 1) := dk_42 (dk_at dksJ7_init_0 0 rfl rfl)
theorem dJ7_init_1 : decode cJ7_init 1 = .ok (.aload_n 1, 1) := dk_43 (dk_at dksJ7_init_0 1 rfl rfl)
theorem dJ7_init_2 : decode cJ7_init 2 = .ok (.invokespecial 7, 3) := dk_183 0 7 (dk_at dksJ7_init_0 2 rfl rfl)
theorem dJ7_init_5 : decode cJ7_init 5 = .ok (.return_, 1) := dk_177 (dk_at dksJ7_init_0 5 rfl rfl)
def dkwJ6_appendChars_8 : List UInt8 := [120, 184, 1, 53, 42, 89, 180, 0, 79, 29, 28, 100, 96, 181, 0, 79, 177]
abbrev dktJ6_appendChars_8 : List UInt8 := dkwJ6_appendChars_8 ++ []
def dkwJ6_appendChars_7 : List UInt8 := [167, 0, 28, 43, 182, 1, 145, 28, 4, 120, 42, 180, 0, 15, 42, 180, 0, 79, 4, 120, 29, 28, 100, 4]
abbrev dktJ6_appendChars_7 : List UInt8 := dkwJ6_appendChars_7 ++ dktJ6_appendChars_8
def dkwJ6_appendChars_6 : List UInt8 := [167, 0, 52, 43, 182, 1, 144, 153, 0, 20, 42, 180, 0, 15, 42, 180, 0, 79, 43, 28, 29, 184, 1, 138]
abbrev dktJ6_appendChars_6 : List UInt8 := dkwJ6_appendChars_6 ++ dktJ6_appendChars_7
def dkwJ6_appendChars_5 : List UInt8 := [120, 184, 1, 53, 42, 89, 180, 0, 79, 29, 21, 5, 100, 96, 181, 0, 79, 177, 132, 5, 1, 167, 255, 168]
abbrev dktJ6_appendChars_5 : List UInt8 := dkwJ6_appendChars_5 ++ dktJ6_appendChars_6
def dkwJ6_appendChars_4 : List UInt8 := [182, 0, 195, 43, 182, 1, 145, 21, 5, 4, 120, 42, 180, 0, 15, 21, 6, 4, 120, 29, 21, 5, 100, 4]
abbrev dktJ6_appendChars_4 : List UInt8 := dkwJ6_appendChars_4 ++ dktJ6_appendChars_5
def dkwJ6_appendChars_3 : List UInt8 := [153, 0, 17, 25, 4, 21, 6, 132, 6, 1, 21, 7, 145, 84, 167, 0, 52, 42, 21, 6, 181, 0, 79, 42]
abbrev dktJ6_appendChars_3 : List UInt8 := dkwJ6_appendChars_3 ++ dktJ6_appendChars_4
def dkwJ6_appendChars_2 : List UInt8 := [180, 0, 79, 54, 6, 21, 5, 29, 162, 0, 88, 43, 21, 5, 182, 1, 148, 54, 7, 21, 7, 184, 0, 191]
abbrev dktJ6_appendChars_2 : List UInt8 := dkwJ6_appendChars_2 ++ dktJ6_appendChars_3
def dkwJ6_appendChars_1 : List UInt8 := [180, 0, 79, 29, 28, 100, 184, 1, 53, 167, 0, 161, 42, 180, 0, 15, 58, 4, 28, 54, 5, 42]
abbrev dktJ6_appendChars_1 : List UInt8 := dkwJ6_appendChars_1 ++ dktJ6_appendChars_2
def dkwJ6_appendChars_0 : List UInt8 := [42, 182, 0, 83, 153, 0, 141, 43, 182, 1, 144, 153, 0, 25, 43, 182, 1, 145, 28, 42, 180, 0, 15, 42]
abbrev dktJ6_appendChars_0 : List UInt8 := dkwJ6_appendChars_0 ++ dktJ6_appendChars_1
theorem dksJ6_appendChars_0 : cJ6_appendChars.data.toList.drop 0 = dktJ6_appendChars_0 := by decide +kernel
theorem dksJ6_appendChars_1 : cJ6_appendChars.data.toList.drop 24 = dktJ6_appendChars_1 := dk_seg dksJ6_appendChars_0 24 rfl rfl
theorem dksJ6_appendChars_2 : cJ6_appendChars.data.toList.drop 46 = dktJ6_appendChars_2 := dk_seg dksJ6_appendChars_1 22 rfl rfl
theorem dksJ6_appendChars_3 : cJ6_appendChars.data.toList.drop 70 = dktJ6_appendChars_3 := dk_seg dksJ6_appendChars_2 24 rfl rfl
theorem dksJ6_appendChars_4 : cJ6_appendChars.data.toList.drop 94 = dktJ6_appendChars_4 := dk_seg dksJ6_appendChars_3 24 rfl rfl
theorem dksJ6_appendChars_5 : cJ6_appendChars.data.toList.drop 118 = dktJ6_appendChars_5 := dk_seg dksJ6_appendChars_4 24 rfl rfl
theorem dksJ6_appendChars_6 : cJ6_appendChars.data.toList.drop 142 = dktJ6_appendChars_6 := dk_seg dksJ6_appendChars_5 24 rfl rfl
theorem dksJ6_appendChars_7 : cJ6_appendChars.data.toList.drop 166 = dktJ6_appendChars_7 := dk_seg dksJ6_appendChars_6 24 rfl rfl
theorem dksJ6_appendChars_8 : cJ6_appendChars.data.toList.drop 190 = dktJ6_appendChars_8 := dk_seg dksJ6_appendChars_7 24 rfl rfl
theorem dJ6_appendChars_0 : decode cJ6_appendChars 0 = .ok (.aload_n 0, 1) := dk_42 (dk_at dksJ6_appendChars_0 0 rfl rfl)
theorem dJ6_appendChars_1 : decode cJ6_appendChars 1 = .ok (.invokevirtual 83, 3) := dk_182 0 83 (dk_at dksJ6_appendChars_0 1 rfl rfl)
theorem dJ6_appendChars_4 : decode cJ6_appendChars 4 = .ok (.ifCond .eq 141, 3) := dk_153 0 141 (dk_at dksJ6_appendChars_0 4 rfl rfl)
theorem dJ6_appendChars_7 : decode cJ6_appendChars 7 = .ok (.aload_n 1, 1) := dk_43 (dk_at dksJ6_appendChars_0 7 rfl rfl)
theorem dJ6_appendChars_8 : decode cJ6_appendChars 8 = .ok (.invokevirtual 400, 3) := dk_182 1 144 (dk_at dksJ6_appendChars_0 8 rfl rfl)
theorem dJ6_appendChars_11 : decode cJ6_appendChars 11 = .ok (.ifCond .eq 25, 3) := dk_153 0 25 (dk_at dksJ6_appendChars_0 11 rfl rfl)
theorem dJ6_appendChars_14 : decode cJ6_appendChars 14 = .ok (.aload_n 1, 1) := dk_43 (dk_at dksJ6_appendChars_0 14 rfl rfl)
theorem dJ6_appendChars_15 : decode cJ6_appendChars 15 = .ok (.invokevirtual 401, 3) := dk_182 1 145 (dk_at dksJ6_appendChars_0 15 rfl rfl)
theorem dJ6_appendChars_18 : decode cJ6_appendChars 18 = .ok (.iload_n 2, 1) := dk_28 (dk_at dksJ6_appendChars_0 18 rfl rfl)
theorem dJ6_appendChars_19 : decode cJ6_appendChars 19 = .ok (.aload_n 0, 1) := dk_42 (dk_at dksJ6_appendChars_0 19 rfl rfl)
theorem dJ6_appendChars_20 : decode cJ6_appendChars 20 = .ok (.getfield 15, 3) := dk_180 0 15 (dk_at dksJ6_appendChars_0 20 rfl rfl)
theorem dJ6_appendChars_23 : decode cJ6_appendChars 23 = .ok (.aload_n 0, 1) := dk_42 (dk_at dksJ6_appendChars_0 23 rfl rfl)
theorem dJ6_appendChars_24 : decode cJ6_appendChars 24 = .ok (.getfield 79, 3) := dk_180 0 79 (dk_at dksJ6_appendChars_1 0 rfl rfl)
theorem dJ6_appendChars_27 : decode cJ6_appendChars 27 = .ok (.iload_n 3, 1) := dk_29 (dk_at dksJ6_appendChars_1 3 rfl rfl)
theorem dJ6_appendChars_28 : decode cJ6_appendChars 28 = .ok (.iload_n 2, 1) := dk_28 (dk_at dksJ6_appendChars_1 4 rfl rfl)
theorem dJ6_appendChars_29 : decode cJ6_appendChars 29 = .ok (.isub, 1) := dk_100 (dk_at dksJ6_appendChars_1 5 rfl rfl)
theorem dJ6_appendChars_30 : decode cJ6_appendChars 30 = .ok (.invokestatic 309, 3) := dk_184 1 53 (dk_at dksJ6_appendChars_1 6 rfl rfl)
theorem dJ6_appendChars_33 : decode cJ6_appendChars 33 = .ok (.goto 161, 3) := dk_167 0 161 (dk_at dksJ6_appendChars_1 9 rfl rfl)
theorem dJ6_appendChars_36 : decode cJ6_appendChars 36 = .ok (.aload_n 0, 1) := dk_42 (dk_at dksJ6_appendChars_1 12 rfl rfl)
theorem dJ6_appendChars_37 : decode cJ6_appendChars 37 = .ok (.getfield 15, 3) := dk_180 0 15 (dk_at dksJ6_appendChars_1 13 rfl rfl)
theorem dJ6_appendChars_40 : decode cJ6_appendChars 40 = .ok (.astore 4, 2) := dk_58 4 (dk_at dksJ6_appendChars_1 16 rfl rfl)
theorem dJ6_appendChars_42 : decode cJ6_appendChars 42 = .ok (.iload_n 2, 1) := dk_28 (dk_at dksJ6_appendChars_1 18 rfl rfl)
theorem dJ6_appendChars_43 : decode cJ6_appendChars 43 = .ok (.istore 5, 2) := dk_54 5 (dk_at dksJ6_appendChars_1 19 rfl rfl)
theorem dJ6_appendChars_45 : decode cJ6_appendChars 45 = .ok (.aload_n 0, 1) := dk_42 (dk_at dksJ6_appendChars_1 21 rfl rfl)
theorem dJ6_appendChars_46 : decode cJ6_appendChars 46 = .ok (.getfield 79, 3) := dk_180 0 79 (dk_at dksJ6_appendChars_2 0 rfl rfl)
theorem dJ6_appendChars_49 : decode cJ6_appendChars 49 = .ok (.istore 6, 2) := dk_54 6 (dk_at dksJ6_appendChars_2 3 rfl rfl)
theorem dJ6_appendChars_51 : decode cJ6_appendChars 51 = .ok (.iload 5, 2) := dk_21 5 (dk_at dksJ6_appendChars_2 5 rfl rfl)
theorem dJ6_appendChars_53 : decode cJ6_appendChars 53 = .ok (.iload_n 3, 1) := dk_29 (dk_at dksJ6_appendChars_2 7 rfl rfl)
theorem dJ6_appendChars_54 : decode cJ6_appendChars 54 = .ok (.if_icmp .ge 88, 3) := dk_162 0 88 (dk_at dksJ6_appendChars_2 8 rfl rfl)
theorem dJ6_appendChars_57 : decode cJ6_appendChars 57 = .ok (.aload_n 1, 1) := dk_43 (dk_at dksJ6_appendChars_2 11 rfl rfl)
theorem dJ6_appendChars_58 : decode cJ6_appendChars 58 = .ok (.iload 5, 2) := dk_21 5 (dk_at dksJ6_appendChars_2 12 rfl rfl)
theorem dJ6_appendChars_60 : decode cJ6_appendChars 60 = .ok (.invokevirtual 404, 3) := dk_182 1 148 (dk_at dksJ6_appendChars_2 14 rfl rfl)
theorem dJ6_appendChars_63 : decode cJ6_appendChars 63 = .ok (.istore 7, 2) := dk_54 7 (dk_at dksJ6_appendChars_2 17 rfl rfl)
theorem dJ6_appendChars_65 : decode cJ6_appendChars 65 = .ok (.iload 7, 2) := dk_21 7 (dk_at dksJ6_appendChars_2 19 rfl rfl)
theorem dJ6_appendChars_67 : decode cJ6_appendChars 67 = .ok (.invokestatic 191, 3) := dk_184 0 191 (dk_at dksJ6_appendChars_2 21 rfl rfl)
theorem dJ6_appendChars_70 : decode cJ6_appendChars 70 = .ok (.ifCond .eq 17, 3) := dk_153 0 17 (dk_at dksJ6_appendChars_3 0 rfl rfl)
theorem dJ6_appendChars_73 : decode cJ6_appendChars 73 = .ok (.aload 4, 2) := dk_25 4 (dk_at dksJ6_appendChars_3 3 rfl rfl)
theorem dJ6_appendChars_75 : decode cJ6_appendChars 75 = .ok (.iload 6, 2) := dk_21 6 (dk_at dksJ6_appendChars_3 5 rfl rfl)
theorem dJ6_appendChars_77 : decode cJ6_appendChars 77 = .ok (.iinc 6 1, 3) := dk_132 6 1 (dk_at dksJ6_appendChars_3 7 rfl rfl)
theorem dJ6_appendChars_80 : decode cJ6_appendChars 80 = .ok (.iload 7, 2) := dk_21 7 (dk_at dksJ6_appendChars_3 10 rfl rfl)
theorem dJ6_appendChars_82 : decode cJ6_appendChars 82 = .ok (.i2b, 1) := dk_145 (dk_at dksJ6_appendChars_3 12 rfl rfl)
theorem dJ6_appendChars_83 : decode cJ6_appendChars 83 = .ok (.bastore, 1) := dk_84 (dk_at dksJ6_appendChars_3 13 rfl rfl)
theorem dJ6_appendChars_84 : decode cJ6_appendChars 84 = .ok (.goto 52, 3) := dk_167 0 52 (dk_at dksJ6_appendChars_3 14 rfl rfl)
theorem dJ6_appendChars_87 : decode cJ6_appendChars 87 = .ok (.aload_n 0, 1) := dk_42 (dk_at dksJ6_appendChars_3 17 rfl rfl)
theorem dJ6_appendChars_88 : decode cJ6_appendChars 88 = .ok (.iload 6, 2) := dk_21 6 (dk_at dksJ6_appendChars_3 18 rfl rfl)
theorem dJ6_appendChars_90 : decode cJ6_appendChars 90 = .ok (.putfield 79, 3) := dk_181 0 79 (dk_at dksJ6_appendChars_3 20 rfl rfl)
theorem dJ6_appendChars_93 : decode cJ6_appendChars 93 = .ok (.aload_n 0, 1) := dk_42 (dk_at dksJ6_appendChars_3 23 rfl rfl)
theorem dJ6_appendChars_94 : decode cJ6_appendChars 94 = .ok (.invokevirtual 195, 3) := dk_182 0 195 (dk_at dksJ6_appendChars_4 0 rfl rfl)
theorem dJ6_appendChars_97 : decode cJ6_appendChars 97 = .ok (.aload_n 1, 1) := dk_43 (dk_at dksJ6_appendChars_4 3 rfl rfl)
theorem dJ6_appendChars_98 : decode cJ6_appendChars 98 = .ok (.invokevirtual 401, 3) := dk_182 1 145 (dk_at dksJ6_appendChars_4 4 rfl rfl)
theorem dJ6_appendChars_101 : decode cJ6_appendChars 101 = .ok (.iload 5, 2) := dk_21 5 (dk_at dksJ6_appendChars_4 7 rfl rfl)
theorem dJ6_appendChars_103 : decode cJ6_appendChars 103 = .ok (.iconst 1, 1) := dk_4 (dk_at dksJ6_appendChars_4 9 rfl rfl)
theorem dJ6_appendChars_104 : decode cJ6_appendChars 104 = .ok (.ishl, 1) := dk_120 (dk_at dksJ6_appendChars_4 10 rfl rfl)
theorem dJ6_appendChars_105 : decode cJ6_appendChars 105 = .ok (.aload_n 0, 1) := dk_42 (dk_at dksJ6_appendChars_4 11 rfl rfl)
theorem dJ6_appendChars_106 : decode cJ6_appendChars 106 = .ok (.getfield 15, 3) := dk_180 0 15 (dk_at dksJ6_appendChars_4 12 rfl rfl)
theorem dJ6_appendChars_109 : decode cJ6_appendChars 109 = .ok (.iload 6, 2) := dk_21 6 (dk_at dksJ6_appendChars_4 15 rfl rfl)
theorem dJ6_appendChars_111 : decode cJ6_appendChars 111 = .ok (.iconst 1, 1) := dk_4 (dk_at dksJ6_appendChars_4 17 rfl rfl)
theorem dJ6_appendChars_112 : decode cJ6_appendChars 112 = .ok (.ishl, 1) := dk_120 (dk_at dksJ6_appendChars_4 18 rfl rfl)
theorem dJ6_appendChars_113 : decode cJ6_appendChars 113 = .ok (.iload_n 3, 1) := dk_29 (dk_at dksJ6_appendChars_4 19 rfl rfl)
theorem dJ6_appendChars_114 : decode cJ6_appendChars 114 = .ok (.iload 5, 2) := dk_21 5 (dk_at dksJ6_appendChars_4 20 rfl rfl)
theorem dJ6_appendChars_116 : decode cJ6_appendChars 116 = .ok (.isub, 1) := dk_100 (dk_at dksJ6_appendChars_4 22 rfl rfl)
theorem dJ6_appendChars_117 : decode cJ6_appendChars 117 = .ok (.iconst 1, 1) := dk_4 (dk_at dksJ6_appendChars_4 23 rfl rfl)
theorem dJ6_appendChars_118 : decode cJ6_appendChars 118 = .ok (.ishl, 1) := dk_120 (dk_at dksJ6_appendChars_5 0 rfl rfl)
theorem dJ6_appendChars_119 : decode cJ6_appendChars 119 = .ok (.invokestatic 309, 3) := dk_184 1 53 (dk_at dksJ6_appendChars_5 1 rfl rfl)
theorem dJ6_appendChars_122 : decode cJ6_appendChars 122 = .ok (.aload_n 0, 1) := dk_42 (dk_at dksJ6_appendChars_5 4 rfl rfl)
theorem dJ6_appendChars_123 : decode cJ6_appendChars 123 = .ok (.dup, 1) := dk_89 (dk_at dksJ6_appendChars_5 5 rfl rfl)
theorem dJ6_appendChars_124 : decode cJ6_appendChars 124 = .ok (.getfield 79, 3) := dk_180 0 79 (dk_at dksJ6_appendChars_5 6 rfl rfl)
theorem dJ6_appendChars_127 : decode cJ6_appendChars 127 = .ok (.iload_n 3, 1) := dk_29 (dk_at dksJ6_appendChars_5 9 rfl rfl)
theorem dJ6_appendChars_128 : decode cJ6_appendChars 128 = .ok (.iload 5, 2) := dk_21 5 (dk_at dksJ6_appendChars_5 10 rfl rfl)
theorem dJ6_appendChars_130 : decode cJ6_appendChars 130 = .ok (.isub, 1) := dk_100 (dk_at dksJ6_appendChars_5 12 rfl rfl)
theorem dJ6_appendChars_131 : decode cJ6_appendChars 131 = .ok (.iadd, 1) := dk_96 (dk_at dksJ6_appendChars_5 13 rfl rfl)
theorem dJ6_appendChars_132 : decode cJ6_appendChars 132 = .ok (.putfield 79, 3) := dk_181 0 79 (dk_at dksJ6_appendChars_5 14 rfl rfl)
theorem dJ6_appendChars_135 : decode cJ6_appendChars 135 = .ok (.return_, 1) := dk_177 (dk_at dksJ6_appendChars_5 17 rfl rfl)
theorem dJ6_appendChars_136 : decode cJ6_appendChars 136 = .ok (.iinc 5 1, 3) := dk_132 5 1 (dk_at dksJ6_appendChars_5 18 rfl rfl)
theorem dJ6_appendChars_139 : decode cJ6_appendChars 139 = .ok (.goto (-88), 3) := dk_167 255 168 (dk_at dksJ6_appendChars_5 21 rfl rfl)
theorem dJ6_appendChars_142 : decode cJ6_appendChars 142 = .ok (.goto 52, 3) := dk_167 0 52 (dk_at dksJ6_appendChars_6 0 rfl rfl)
theorem dJ6_appendChars_145 : decode cJ6_appendChars 145 = .ok (.aload_n 1, 1) := dk_43 (dk_at dksJ6_appendChars_6 3 rfl rfl)
theorem dJ6_appendChars_146 : decode cJ6_appendChars 146 = .ok (.invokevirtual 400, 3) := dk_182 1 144 (dk_at dksJ6_appendChars_6 4 rfl rfl)
theorem dJ6_appendChars_149 : decode cJ6_appendChars 149 = .ok (.ifCond .eq 20, 3) := dk_153 0 20 (dk_at dksJ6_appendChars_6 7 rfl rfl)
theorem dJ6_appendChars_152 : decode cJ6_appendChars 152 = .ok (.aload_n 0, 1) := dk_42 (dk_at dksJ6_appendChars_6 10 rfl rfl)
theorem dJ6_appendChars_153 : decode cJ6_appendChars 153 = .ok (.getfield 15, 3) := dk_180 0 15 (dk_at dksJ6_appendChars_6 11 rfl rfl)
theorem dJ6_appendChars_156 : decode cJ6_appendChars 156 = .ok (.aload_n 0, 1) := dk_42 (dk_at dksJ6_appendChars_6 14 rfl rfl)
theorem dJ6_appendChars_157 : decode cJ6_appendChars 157 = .ok (.getfield 79, 3) := dk_180 0 79 (dk_at dksJ6_appendChars_6 15 rfl rfl)
theorem dJ6_appendChars_160 : decode cJ6_appendChars 160 = .ok (.aload_n 1, 1) := dk_43 (dk_at dksJ6_appendChars_6 18 rfl rfl)
theorem dJ6_appendChars_161 : decode cJ6_appendChars 161 = .ok (.iload_n 2, 1) := dk_28 (dk_at dksJ6_appendChars_6 19 rfl rfl)
theorem dJ6_appendChars_162 : decode cJ6_appendChars 162 = .ok (.iload_n 3, 1) := dk_29 (dk_at dksJ6_appendChars_6 20 rfl rfl)
theorem dJ6_appendChars_163 : decode cJ6_appendChars 163 = .ok (.invokestatic 394, 3) := dk_184 1 138 (dk_at dksJ6_appendChars_6 21 rfl rfl)
theorem dJ6_appendChars_166 : decode cJ6_appendChars 166 = .ok (.goto 28, 3) := dk_167 0 28 (dk_at dksJ6_appendChars_7 0 rfl rfl)
theorem dJ6_appendChars_169 : decode cJ6_appendChars 169 = .ok (.aload_n 1, 1) := dk_43 (dk_at dksJ6_appendChars_7 3 rfl rfl)
theorem dJ6_appendChars_170 : decode cJ6_appendChars 170 = .ok (.invokevirtual 401, 3) := dk_182 1 145 (dk_at dksJ6_appendChars_7 4 rfl rfl)
theorem dJ6_appendChars_173 : decode cJ6_appendChars 173 = .ok (.iload_n 2, 1) := dk_28 (dk_at dksJ6_appendChars_7 7 rfl rfl)
theorem dJ6_appendChars_174 : decode cJ6_appendChars 174 = .ok (.iconst 1, 1) := dk_4 (dk_at dksJ6_appendChars_7 8 rfl rfl)
theorem dJ6_appendChars_175 : decode cJ6_appendChars 175 = .ok (.ishl, 1) := dk_120 (dk_at dksJ6_appendChars_7 9 rfl rfl)
theorem dJ6_appendChars_176 : decode cJ6_appendChars 176 = .ok (.aload_n 0, 1) := dk_42 (dk_at dksJ6_appendChars_7 10 rfl rfl)
theorem dJ6_appendChars_177 : decode cJ6_appendChars 177 = .ok (.getfield 15, 3) := dk_180 0 15 (dk_at dksJ6_appendChars_7 11 rfl rfl)
theorem dJ6_appendChars_180 : decode cJ6_appendChars 180 = .ok (.aload_n 0, 1) := dk_42 (dk_at dksJ6_appendChars_7 14 rfl rfl)
theorem dJ6_appendChars_181 : decode cJ6_appendChars 181 = .ok (.getfield 79, 3) := dk_180 0 79 (dk_at dksJ6_appendChars_7 15 rfl rfl)
theorem dJ6_appendChars_184 : decode cJ6_appendChars 184 = .ok (.iconst 1, 1) := dk_4 (dk_at dksJ6_appendChars_7 18 rfl rfl)
theorem dJ6_appendChars_185 : decode cJ6_appendChars 185 = .ok (.ishl, 1) := dk_120 (dk_at dksJ6_appendChars_7 19 rfl rfl)
theorem dJ6_appendChars_186 : decode cJ6_appendChars 186 = .ok (.iload_n 3, 1) := dk_29 (dk_at dksJ6_appendChars_7 20 rfl rfl)
theorem dJ6_appendChars_187 : decode cJ6_appendChars 187 = .ok (.iload_n 2, 1) := dk_28 (dk_at dksJ6_appendChars_7 21 rfl rfl)
theorem dJ6_appendChars_188 : decode cJ6_appendChars 188 = .ok (.isub, 1) := dk_100 (dk_at dksJ6_appendChars_7 22 rfl rfl)
theorem dJ6_appendChars_189 : decode cJ6_appendChars 189 = .ok (.iconst 1, 1) := dk_4 (dk_at dksJ6_appendChars_7 23 rfl rfl)
theorem dJ6_appendChars_190 : decode cJ6_appendChars 190 = .ok (.ishl, 1) := dk_120 (dk_at dksJ6_appendChars_8 0 rfl rfl)
theorem dJ6_appendChars_191 : decode cJ6_appendChars 191 = .ok (.invokestatic 309, 3) := dk_184 1 53 (dk_at dksJ6_appendChars_8 1 rfl rfl)
theorem dJ6_appendChars_194 : decode cJ6_appendChars 194 = .ok (.aload_n 0, 1) := dk_42 (dk_at dksJ6_appendChars_8 4 rfl rfl)
theorem dJ6_appendChars_195 : decode cJ6_appendChars 195 = .ok (.dup, 1) := dk_89 (dk_at dksJ6_appendChars_8 5 rfl rfl)
theorem dJ6_appendChars_196 : decode cJ6_appendChars 196 = .ok (.getfield 79, 3) := dk_180 0 79 (dk_at dksJ6_appendChars_8 6 rfl rfl)
theorem dJ6_appendChars_199 : decode cJ6_appendChars 199 = .ok (.iload_n 3, 1) := dk_29 (dk_at dksJ6_appendChars_8 9 rfl rfl)
theorem dJ6_appendChars_200 : decode cJ6_appendChars 200 = .ok (.iload_n 2, 1) := dk_28 (dk_at dksJ6_appendChars_8 10 rfl rfl)
theorem dJ6_appendChars_201 : decode cJ6_appendChars 201 = .ok (.isub, 1) := dk_100 (dk_at dksJ6_appendChars_8 11 rfl rfl)
theorem dJ6_appendChars_202 : decode cJ6_appendChars 202 = .ok (.iadd, 1) := dk_96 (dk_at dksJ6_appendChars_8 12 rfl rfl)
theorem dJ6_appendChars_203 : decode cJ6_appendChars 203 = .ok (.putfield 79, 3) := dk_181 0 79 (dk_at dksJ6_appendChars_8 13 rfl rfl)
theorem dJ6_appendChars_206 : decode cJ6_appendChars 206 = .ok (.return_, 1) := dk_177 (dk_at dksJ6_appendChars_8 16 rfl rfl)
def dkwJ6_append_5_2 : List UInt8 := [192, 0, 1, 28, 29, 182, 0, 232, 167, 0, 10, 42, 43, 28, 29, 182, 0, 236, 42, 176]
abbrev dktJ6_append_5_2 : List UInt8 := dkwJ6_append_5_2 ++ []
def dkwJ6_append_5_1 : List UInt8 := [100, 54, 4, 42, 42, 180, 0, 79, 21, 4, 96, 182, 0, 100, 43, 193, 0, 1, 153, 0, 16, 42, 43]
abbrev dktJ6_append_5_1 : List UInt8 := dkwJ6_append_5_1 ++ dktJ6_append_5_2
def dkwJ6_append_5_0 : List UInt8 := [43, 199, 0, 6, 18, 230, 76, 28, 29, 43, 185, 0, 47, 1, 0, 178, 0, 183, 184, 0, 161, 87, 29, 28]
abbrev dktJ6_append_5_0 : List UInt8 := dkwJ6_append_5_0 ++ dktJ6_append_5_1
theorem dksJ6_append_5_0 : cJ6_append_5.data.toList.drop 0 = dktJ6_append_5_0 := by decide +kernel
theorem dksJ6_append_5_1 : cJ6_append_5.data.toList.drop 24 = dktJ6_append_5_1 := dk_seg dksJ6_append_5_0 24 rfl rfl
theorem dksJ6_append_5_2 : cJ6_append_5.data.toList.drop 47 = dktJ6_append_5_2 := dk_seg dksJ6_append_5_1 23 rfl rfl
theorem dJ6_append_5_0 : decode cJ6_append_5 0 = .ok (.aload_n 1, 1) := dk_43 (dk_at dksJ6_append_5_0 0 rfl rfl)
theorem dJ6_append_5_1 : decode cJ6_append_5 1 = .ok (.ifnonnull 6, 3) := dk_199 0 6 (dk_at dksJ6_append_5_0 1 rfl rfl)
theorem dJ6_append_5_4 : decode cJ6_append_5 4 = .ok (.ldc 230, 2) := dk_18 230 (dk_at dksJ6_append_5_0 4 rfl rfl)
theorem dJ6_append_5_6 : decode cJ6_append_5 6 = .ok (.astore_n 1, 1) := dk_76 (dk_at dksJ6_append_5_0 6 rfl rfl)
theorem dJ6_append_5_7 : decode cJ6_append_5 7 = .ok (.iload_n 2, 1) := dk_28 (dk_at dksJ6_append_5_0 7 rfl rfl)
theorem dJ6_append_5_8 : decode cJ6_append_5 8 = .ok (.iload_n 3, 1) := dk_29 (dk_at dksJ6_append_5_0 8 rfl rfl)
theorem dJ6_append_5_9 : decode cJ6_append_5 9 = .ok (.aload_n 1, 1) := dk_43 (dk_at dksJ6_append_5_0 9 rfl rfl)
theorem dJ6_append_5_10 : decode cJ6_append_5 10 = .ok (.invokeinterface 47 1, 5) := by decide +kernel
theorem dJ6_append_5_15 : decode cJ6_append_5 15 = .ok (.getstatic 183, 3) := dk_178 0 183 (dk_at dksJ6_append_5_0 15 rfl rfl)
theorem dJ6_append_5_18 : decode cJ6_append_5 18 = .ok (.invokestatic 161, 3) := dk_184 0 161 (dk_at dksJ6_append_5_0 18 rfl rfl)
theorem dJ6_append_5_21 : decode cJ6_append_5 21 = .ok (.pop, 1) := dk_87 (dk_at dksJ6_append_5_0 21 rfl rfl)
theorem dJ6_append_5_22 : decode cJ6_append_5 22 = .ok (.iload_n 3, 1) := dk_29 (dk_at dksJ6_append_5_0 22 rfl rfl)
theorem dJ6_append_5_23 : decode cJ6_append_5 23 = .ok (.iload_n 2, 1) := dk_28 (dk_at dksJ6_append_5_0 23 rfl rfl)
theorem dJ6_append_5_24 : decode cJ6_append_5 24 = .ok (.isub, 1) := dk_100 (dk_at dksJ6_append_5_1 0 rfl rfl)
theorem dJ6_append_5_25 : decode cJ6_append_5 25 = .ok (.istore 4, 2) := dk_54 4 (dk_at dksJ6_append_5_1 1 rfl rfl)
theorem dJ6_append_5_27 : decode cJ6_append_5 27 = .ok (.aload_n 0, 1) := dk_42 (dk_at dksJ6_append_5_1 3 rfl rfl)
theorem dJ6_append_5_28 : decode cJ6_append_5 28 = .ok (.aload_n 0, 1) := dk_42 (dk_at dksJ6_append_5_1 4 rfl rfl)
theorem dJ6_append_5_29 : decode cJ6_append_5 29 = .ok (.getfield 79, 3) := dk_180 0 79 (dk_at dksJ6_append_5_1 5 rfl rfl)
theorem dJ6_append_5_32 : decode cJ6_append_5 32 = .ok (.iload 4, 2) := dk_21 4 (dk_at dksJ6_append_5_1 8 rfl rfl)
theorem dJ6_append_5_34 : decode cJ6_append_5 34 = .ok (.iadd, 1) := dk_96 (dk_at dksJ6_append_5_1 10 rfl rfl)
theorem dJ6_append_5_35 : decode cJ6_append_5 35 = .ok (.invokevirtual 100, 3) := dk_182 0 100 (dk_at dksJ6_append_5_1 11 rfl rfl)
theorem dJ6_append_5_38 : decode cJ6_append_5 38 = .ok (.aload_n 1, 1) := dk_43 (dk_at dksJ6_append_5_1 14 rfl rfl)
theorem dJ6_append_5_39 : decode cJ6_append_5 39 = .ok (.instanceof 1, 3) := dk_193 0 1 (dk_at dksJ6_append_5_1 15 rfl rfl)
theorem dJ6_append_5_42 : decode cJ6_append_5 42 = .ok (.ifCond .eq 16, 3) := dk_153 0 16 (dk_at dksJ6_append_5_1 18 rfl rfl)
theorem dJ6_append_5_45 : decode cJ6_append_5 45 = .ok (.aload_n 0, 1) := dk_42 (dk_at dksJ6_append_5_1 21 rfl rfl)
theorem dJ6_append_5_46 : decode cJ6_append_5 46 = .ok (.aload_n 1, 1) := dk_43 (dk_at dksJ6_append_5_1 22 rfl rfl)
theorem dJ6_append_5_47 : decode cJ6_append_5 47 = .ok (.checkcast 1, 3) := dk_192 0 1 (dk_at dksJ6_append_5_2 0 rfl rfl)
theorem dJ6_append_5_50 : decode cJ6_append_5 50 = .ok (.iload_n 2, 1) := dk_28 (dk_at dksJ6_append_5_2 3 rfl rfl)
theorem dJ6_append_5_51 : decode cJ6_append_5 51 = .ok (.iload_n 3, 1) := dk_29 (dk_at dksJ6_append_5_2 4 rfl rfl)
theorem dJ6_append_5_52 : decode cJ6_append_5 52 = .ok (.invokevirtual 232, 3) := dk_182 0 232 (dk_at dksJ6_append_5_2 5 rfl rfl)
theorem dJ6_append_5_55 : decode cJ6_append_5 55 = .ok (.goto 10, 3) := dk_167 0 10 (dk_at dksJ6_append_5_2 8 rfl rfl)
theorem dJ6_append_5_58 : decode cJ6_append_5 58 = .ok (.aload_n 0, 1) := dk_42 (dk_at dksJ6_append_5_2 11 rfl rfl)
theorem dJ6_append_5_59 : decode cJ6_append_5 59 = .ok (.aload_n 1, 1) := dk_43 (dk_at dksJ6_append_5_2 12 rfl rfl)
theorem dJ6_append_5_60 : decode cJ6_append_5 60 = .ok (.iload_n 2, 1) := dk_28 (dk_at dksJ6_append_5_2 13 rfl rfl)
theorem dJ6_append_5_61 : decode cJ6_append_5 61 = .ok (.iload_n 3, 1) := dk_29 (dk_at dksJ6_append_5_2 14 rfl rfl)
theorem dJ6_append_5_62 : decode cJ6_append_5 62 = .ok (.invokevirtual 236, 3) := dk_182 0 236 (dk_at dksJ6_append_5_2 15 rfl rfl)
theorem dJ6_append_5_65 : decode cJ6_append_5 65 = .ok (.aload_n 0, 1) := dk_42 (dk_at dksJ6_append_5_2 18 rfl rfl)
theorem dJ6_append_5_66 : decode cJ6_append_5 66 = .ok (.areturn, 1) := dk_176 (dk_at dksJ6_append_5_2 19 rfl rfl)
def dkwJ7_append_7_0 : List UInt8 := [42, 43, 28, 29, 183, 0, 38, 87, 42, 176]
abbrev dktJ7_append_7_0 : List UInt8 := dkwJ7_append_7_0 ++ []
theorem dksJ7_append_7_0 : cJ7_append_7.data.toList.drop 0 = dktJ7_append_7_0 := by decide +kernel
theorem dJ7_append_7_0 : decode cJ7_append_7 0 = .ok (.aload_n 0, 1) := dk_42 (dk_at dksJ7_append_7_0 0 rfl rfl)
theorem dJ7_append_7_1 : decode cJ7_append_7 1 = .ok (.aload_n 1, 1) := dk_43 (dk_at dksJ7_append_7_0 1 rfl rfl)
theorem dJ7_append_7_2 : decode cJ7_append_7 2 = .ok (.iload_n 2, 1) := dk_28 (dk_at dksJ7_append_7_0 2 rfl rfl)
theorem dJ7_append_7_3 : decode cJ7_append_7 3 = .ok (.iload_n 3, 1) := dk_29 (dk_at dksJ7_append_7_0 3 rfl rfl)
theorem dJ7_append_7_4 : decode cJ7_append_7 4 = .ok (.invokespecial 38, 3) := dk_183 0 38 (dk_at dksJ7_append_7_0 4 rfl rfl)
theorem dJ7_append_7_7 : decode cJ7_append_7 7 = .ok (.pop, 1) := dk_87 (dk_at dksJ7_append_7_0 7 rfl rfl)
theorem dJ7_append_7_8 : decode cJ7_append_7 8 = .ok (.aload_n 0, 1) := dk_42 (dk_at dksJ7_append_7_0 8 rfl rfl)
theorem dJ7_append_7_9 : decode cJ7_append_7 9 = .ok (.areturn, 1) := dk_176 (dk_at dksJ7_append_7_0 9 rfl rfl)
def dkwJ16_toString_2_2 : List UInt8 := [187, 0, 5, 89, 45, 4, 183, 0, 112, 176]
abbrev dktJ16_toString_2_2 : List UInt8 := dkwJ16_toString_2_2 ++ []
def dkwJ16_toString_2_1 : List UInt8 := [187, 0, 5, 89, 45, 3, 183, 0, 112, 176, 28, 5, 104, 188, 8, 78, 30, 28, 45, 184, 0, 125, 87]
abbrev dktJ16_toString_2_1 : List UInt8 := dkwJ16_toString_2_1 ++ dktJ16_toString_2_2
def dkwJ16_toString_2_0 : List UInt8 := [30, 184, 0, 118, 61, 178, 0, 13, 153, 0, 24, 28, 188, 8, 78, 30, 28, 45, 184, 0, 121, 87]
abbrev dktJ16_toString_2_0 : List UInt8 := dkwJ16_toString_2_0 ++ dktJ16_toString_2_1
theorem dksJ16_toString_2_0 : cJ16_toString_2.data.toList.drop 0 = dktJ16_toString_2_0 := by decide +kernel
theorem dksJ16_toString_2_1 : cJ16_toString_2.data.toList.drop 22 = dktJ16_toString_2_1 := dk_seg dksJ16_toString_2_0 22 rfl rfl
theorem dksJ16_toString_2_2 : cJ16_toString_2.data.toList.drop 45 = dktJ16_toString_2_2 := dk_seg dksJ16_toString_2_1 23 rfl rfl
theorem dJ16_toString_2_0 : decode cJ16_toString_2 0 = .ok (.lload_n 0, 1) := dk_30 (dk_at dksJ16_toString_2_0 0 rfl rfl)
theorem dJ16_toString_2_1 : decode cJ16_toString_2 1 = .ok (.invokestatic 118, 3) := dk_184 0 118 (dk_at dksJ16_toString_2_0 1 rfl rfl)
theorem dJ16_toString_2_4 : decode cJ16_toString_2 4 = .ok (.istore_n 2, 1) := dk_61 (dk_at dksJ16_toString_2_0 4 rfl rfl)
theorem dJ16_toString_2_5 : decode cJ16_toString_2 5 = .ok (.getstatic 13, 3) := dk_178 0 13 (dk_at dksJ16_toString_2_0 5 rfl rfl)
theorem dJ16_toString_2_8 : decode cJ16_toString_2 8 = .ok (.ifCond .eq 24, 3) := dk_153 0 24 (dk_at dksJ16_toString_2_0 8 rfl rfl)
theorem dJ16_toString_2_11 : decode cJ16_toString_2 11 = .ok (.iload_n 2, 1) := dk_28 (dk_at dksJ16_toString_2_0 11 rfl rfl)
theorem dJ16_toString_2_12 : decode cJ16_toString_2 12 = .ok (.newarray .byte, 2) := dk_188_8 (dk_at dksJ16_toString_2_0 12 rfl rfl)
theorem dJ16_toString_2_14 : decode cJ16_toString_2 14 = .ok (.astore_n 3, 1) := dk_78 (dk_at dksJ16_toString_2_0 14 rfl rfl)
theorem dJ16_toString_2_15 : decode cJ16_toString_2 15 = .ok (.lload_n 0, 1) := dk_30 (dk_at dksJ16_toString_2_0 15 rfl rfl)
theorem dJ16_toString_2_16 : decode cJ16_toString_2 16 = .ok (.iload_n 2, 1) := dk_28 (dk_at dksJ16_toString_2_0 16 rfl rfl)
theorem dJ16_toString_2_17 : decode cJ16_toString_2 17 = .ok (.aload_n 3, 1) := dk_45 (dk_at dksJ16_toString_2_0 17 rfl rfl)
theorem dJ16_toString_2_18 : decode cJ16_toString_2 18 = .ok (.invokestatic 121, 3) := dk_184 0 121 (dk_at dksJ16_toString_2_0 18 rfl rfl)
theorem dJ16_toString_2_21 : decode cJ16_toString_2 21 = .ok (.pop, 1) := dk_87 (dk_at dksJ16_toString_2_0 21 rfl rfl)
theorem dJ16_toString_2_22 : decode cJ16_toString_2 22 = .ok (.new 5, 3) := dk_187 0 5 (dk_at dksJ16_toString_2_1 0 rfl rfl)
theorem dJ16_toString_2_25 : decode cJ16_toString_2 25 = .ok (.dup, 1) := dk_89 (dk_at dksJ16_toString_2_1 3 rfl rfl)
theorem dJ16_toString_2_26 : decode cJ16_toString_2 26 = .ok (.aload_n 3, 1) := dk_45 (dk_at dksJ16_toString_2_1 4 rfl rfl)
theorem dJ16_toString_2_27 : decode cJ16_toString_2 27 = .ok (.iconst 0, 1) := dk_3 (dk_at dksJ16_toString_2_1 5 rfl rfl)
theorem dJ16_toString_2_28 : decode cJ16_toString_2 28 = .ok (.invokespecial 112, 3) := dk_183 0 112 (dk_at dksJ16_toString_2_1 6 rfl rfl)
theorem dJ16_toString_2_31 : decode cJ16_toString_2 31 = .ok (.areturn, 1) := dk_176 (dk_at dksJ16_toString_2_1 9 rfl rfl)
theorem dJ16_toString_2_32 : decode cJ16_toString_2 32 = .ok (.iload_n 2, 1) := dk_28 (dk_at dksJ16_toString_2_1 10 rfl rfl)
theorem dJ16_toString_2_33 : decode cJ16_toString_2 33 = .ok (.iconst 2, 1) := dk_5 (dk_at dksJ16_toString_2_1 11 rfl rfl)
theorem dJ16_toString_2_34 : decode cJ16_toString_2 34 = .ok (.imul, 1) := dk_104 (dk_at dksJ16_toString_2_1 12 rfl rfl)
theorem dJ16_toString_2_35 : decode cJ16_toString_2 35 = .ok (.newarray .byte, 2) := dk_188_8 (dk_at dksJ16_toString_2_1 13 rfl rfl)
theorem dJ16_toString_2_37 : decode cJ16_toString_2 37 = .ok (.astore_n 3, 1) := dk_78 (dk_at dksJ16_toString_2_1 15 rfl rfl)
theorem dJ16_toString_2_38 : decode cJ16_toString_2 38 = .ok (.lload_n 0, 1) := dk_30 (dk_at dksJ16_toString_2_1 16 rfl rfl)
theorem dJ16_toString_2_39 : decode cJ16_toString_2 39 = .ok (.iload_n 2, 1) := dk_28 (dk_at dksJ16_toString_2_1 17 rfl rfl)
theorem dJ16_toString_2_40 : decode cJ16_toString_2 40 = .ok (.aload_n 3, 1) := dk_45 (dk_at dksJ16_toString_2_1 18 rfl rfl)
theorem dJ16_toString_2_41 : decode cJ16_toString_2 41 = .ok (.invokestatic 125, 3) := dk_184 0 125 (dk_at dksJ16_toString_2_1 19 rfl rfl)
theorem dJ16_toString_2_44 : decode cJ16_toString_2 44 = .ok (.pop, 1) := dk_87 (dk_at dksJ16_toString_2_1 22 rfl rfl)
theorem dJ16_toString_2_45 : decode cJ16_toString_2 45 = .ok (.new 5, 3) := dk_187 0 5 (dk_at dksJ16_toString_2_2 0 rfl rfl)
theorem dJ16_toString_2_48 : decode cJ16_toString_2 48 = .ok (.dup, 1) := dk_89 (dk_at dksJ16_toString_2_2 3 rfl rfl)
theorem dJ16_toString_2_49 : decode cJ16_toString_2 49 = .ok (.aload_n 3, 1) := dk_45 (dk_at dksJ16_toString_2_2 4 rfl rfl)
theorem dJ16_toString_2_50 : decode cJ16_toString_2 50 = .ok (.iconst 1, 1) := dk_4 (dk_at dksJ16_toString_2_2 5 rfl rfl)
theorem dJ16_toString_2_51 : decode cJ16_toString_2 51 = .ok (.invokespecial 112, 3) := dk_183 0 112 (dk_at dksJ16_toString_2_2 6 rfl rfl)
theorem dJ16_toString_2_54 : decode cJ16_toString_2 54 = .ok (.areturn, 1) := dk_176 (dk_at dksJ16_toString_2_2 9 rfl rfl)
def dkwJ13_fill_3_0 : List UInt8 := [3, 61, 42, 190, 62, 28, 29, 162, 0, 13, 42, 28, 27, 84, 132, 2, 1, 167, 255, 244, 177]
abbrev dktJ13_fill_3_0 : List UInt8 := dkwJ13_fill_3_0 ++ []
theorem dksJ13_fill_3_0 : cJ13_fill_3.data.toList.drop 0 = dktJ13_fill_3_0 := by decide +kernel
theorem dJ13_fill_3_0 : decode cJ13_fill_3 0 = .ok (.iconst 0, 1) := dk_3 (dk_at dksJ13_fill_3_0 0 rfl rfl)
theorem dJ13_fill_3_1 : decode cJ13_fill_3 1 = .ok (.istore_n 2, 1) := dk_61 (dk_at dksJ13_fill_3_0 1 rfl rfl)
theorem dJ13_fill_3_2 : decode cJ13_fill_3 2 = .ok (.aload_n 0, 1) := dk_42 (dk_at dksJ13_fill_3_0 2 rfl rfl)
theorem dJ13_fill_3_3 : decode cJ13_fill_3 3 = .ok (.arraylength, 1) := dk_190 (dk_at dksJ13_fill_3_0 3 rfl rfl)
theorem dJ13_fill_3_4 : decode cJ13_fill_3 4 = .ok (.istore_n 3, 1) := dk_62 (dk_at dksJ13_fill_3_0 4 rfl rfl)
theorem dJ13_fill_3_5 : decode cJ13_fill_3 5 = .ok (.iload_n 2, 1) := dk_28 (dk_at dksJ13_fill_3_0 5 rfl rfl)
theorem dJ13_fill_3_6 : decode cJ13_fill_3 6 = .ok (.iload_n 3, 1) := dk_29 (dk_at dksJ13_fill_3_0 6 rfl rfl)
theorem dJ13_fill_3_7 : decode cJ13_fill_3 7 = .ok (.if_icmp .ge 13, 3) := dk_162 0 13 (dk_at dksJ13_fill_3_0 7 rfl rfl)
theorem dJ13_fill_3_10 : decode cJ13_fill_3 10 = .ok (.aload_n 0, 1) := dk_42 (dk_at dksJ13_fill_3_0 10 rfl rfl)
theorem dJ13_fill_3_11 : decode cJ13_fill_3 11 = .ok (.iload_n 2, 1) := dk_28 (dk_at dksJ13_fill_3_0 11 rfl rfl)
theorem dJ13_fill_3_12 : decode cJ13_fill_3 12 = .ok (.iload_n 1, 1) := dk_27 (dk_at dksJ13_fill_3_0 12 rfl rfl)
theorem dJ13_fill_3_13 : decode cJ13_fill_3 13 = .ok (.bastore, 1) := dk_84 (dk_at dksJ13_fill_3_0 13 rfl rfl)
theorem dJ13_fill_3_14 : decode cJ13_fill_3 14 = .ok (.iinc 2 1, 3) := dk_132 2 1 (dk_at dksJ13_fill_3_0 14 rfl rfl)
theorem dJ13_fill_3_17 : decode cJ13_fill_3 17 = .ok (.goto (-12), 3) := dk_167 255 244 (dk_at dksJ13_fill_3_0 17 rfl rfl)
theorem dJ13_fill_3_20 : decode cJ13_fill_3 20 = .ok (.return_, 1) := dk_177 (dk_at dksJ13_fill_3_0 20 rfl rfl)
def dkwJ5_repeat_6 : List UInt8 := [187, 0, 10, 89, 25, 4, 42, 180, 0, 15, 183, 0, 209, 176]
abbrev dktJ5_repeat_6 : List UInt8 := dkwJ5_repeat_6 ++ []
def dkwJ5_repeat_5 : List UInt8 := [58, 4, 42, 180, 0, 9, 3, 25, 4, 3, 28, 184, 0, 212, 25, 4, 3, 29, 28, 184, 4, 20]
abbrev dktJ5_repeat_5 : List UInt8 := dkwJ5_repeat_5 ++ dktJ5_repeat_6
def dkwJ5_repeat_4 : List UInt8 := [184, 4, 17, 187, 0, 10, 89, 45, 42, 180, 0, 15, 183, 0, 209, 176, 28, 27, 104, 62, 29, 188, 8]
abbrev dktJ5_repeat_4 : List UInt8 := dkwJ5_repeat_4 ++ dktJ5_repeat_5
def dkwJ5_repeat_3 : List UInt8 := [19, 2, 238, 183, 2, 240, 191, 28, 4, 160, 0, 30, 27, 188, 8, 78, 45, 42, 180, 0, 9, 3, 51]
abbrev dktJ5_repeat_3 : List UInt8 := dkwJ5_repeat_3 ++ dktJ5_repeat_4
def dkwJ5_repeat_2 : List UInt8 := [153, 0, 7, 27, 154, 0, 6, 18, 7, 176, 19, 3, 175, 27, 108, 28, 162, 0, 14, 187, 2, 236, 89]
abbrev dktJ5_repeat_2 : List UInt8 := dkwJ5_repeat_2 ++ dktJ5_repeat_3
def dkwJ5_repeat_1 : List UInt8 := [182, 1, 200, 182, 1, 205, 183, 3, 201, 191, 27, 4, 160, 0, 5, 42, 176, 42, 180, 0, 9, 190, 61, 28]
abbrev dktJ5_repeat_1 : List UInt8 := dkwJ5_repeat_1 ++ dktJ5_repeat_2
def dkwJ5_repeat_0 : List UInt8 := [27, 156, 0, 31, 187, 0, 220, 89, 187, 1, 191, 89, 183, 1, 193, 19, 4, 15, 182, 1, 196, 27]
abbrev dktJ5_repeat_0 : List UInt8 := dkwJ5_repeat_0 ++ dktJ5_repeat_1
theorem dksJ5_repeat_0 : cJ5_repeat.data.toList.drop 0 = dktJ5_repeat_0 := by decide +kernel
theorem dksJ5_repeat_1 : cJ5_repeat.data.toList.drop 22 = dktJ5_repeat_1 := dk_seg dksJ5_repeat_0 22 rfl rfl
theorem dksJ5_repeat_2 : cJ5_repeat.data.toList.drop 46 = dktJ5_repeat_2 := dk_seg dksJ5_repeat_1 24 rfl rfl
theorem dksJ5_repeat_3 : cJ5_repeat.data.toList.drop 69 = dktJ5_repeat_3 := dk_seg dksJ5_repeat_2 23 rfl rfl
theorem dksJ5_repeat_4 : cJ5_repeat.data.toList.drop 92 = dktJ5_repeat_4 := dk_seg dksJ5_repeat_3 23 rfl rfl
theorem dksJ5_repeat_5 : cJ5_repeat.data.toList.drop 115 = dktJ5_repeat_5 := dk_seg dksJ5_repeat_4 23 rfl rfl
theorem dksJ5_repeat_6 : cJ5_repeat.data.toList.drop 137 = dktJ5_repeat_6 := dk_seg dksJ5_repeat_5 22 rfl rfl
theorem dJ5_repeat_0 : decode cJ5_repeat 0 = .ok (.iload_n 1, 1) := dk_27 (dk_at dksJ5_repeat_0 0 rfl rfl)
theorem dJ5_repeat_1 : decode cJ5_repeat 1 = .ok (.ifCond .ge 31, 3) := dk_156 0 31 (dk_at dksJ5_repeat_0 1 rfl rfl)
theorem dJ5_repeat_4 : decode cJ5_repeat 4 = .ok (.new 220, 3) := dk_187 0 220 (dk_at dksJ5_repeat_0 4 rfl rfl)
theorem dJ5_repeat_7 : decode cJ5_repeat 7 = .ok (.dup, 1) := dk_89 (dk_at dksJ5_repeat_0 7 rfl rfl)
theorem dJ5_repeat_8 : decode cJ5_repeat 8 = .ok (.new 447, 3) := dk_187 1 191 (dk_at dksJ5_repeat_0 8 rfl rfl)
theorem dJ5_repeat_11 : decode cJ5_repeat 11 = .ok (.dup, 1) := dk_89 (dk_at dksJ5_repeat_0 11 rfl rfl)
theorem dJ5_repeat_12 : decode cJ5_repeat 12 = .ok (.invokespecial 449, 3) := dk_183 1 193 (dk_at dksJ5_repeat_0 12 rfl rfl)
theorem dJ5_repeat_15 : decode cJ5_repeat 15 = .ok (.ldc_w 1039, 3) := dk_19 4 15 (dk_at dksJ5_repeat_0 15 rfl rfl)
theorem dJ5_repeat_18 : decode cJ5_repeat 18 = .ok (.invokevirtual 452, 3) := dk_182 1 196 (dk_at dksJ5_repeat_0 18 rfl rfl)
theorem dJ5_repeat_21 : decode cJ5_repeat 21 = .ok (.iload_n 1, 1) := dk_27 (dk_at dksJ5_repeat_0 21 rfl rfl)
theorem dJ5_repeat_22 : decode cJ5_repeat 22 = .ok (.invokevirtual 456, 3) := dk_182 1 200 (dk_at dksJ5_repeat_1 0 rfl rfl)
theorem dJ5_repeat_25 : decode cJ5_repeat 25 = .ok (.invokevirtual 461, 3) := dk_182 1 205 (dk_at dksJ5_repeat_1 3 rfl rfl)
theorem dJ5_repeat_28 : decode cJ5_repeat 28 = .ok (.invokespecial 969, 3) := dk_183 3 201 (dk_at dksJ5_repeat_1 6 rfl rfl)
theorem dJ5_repeat_31 : decode cJ5_repeat 31 = .ok (.athrow, 1) := dk_191 (dk_at dksJ5_repeat_1 9 rfl rfl)
theorem dJ5_repeat_32 : decode cJ5_repeat 32 = .ok (.iload_n 1, 1) := dk_27 (dk_at dksJ5_repeat_1 10 rfl rfl)
theorem dJ5_repeat_33 : decode cJ5_repeat 33 = .ok (.iconst 1, 1) := dk_4 (dk_at dksJ5_repeat_1 11 rfl rfl)
theorem dJ5_repeat_34 : decode cJ5_repeat 34 = .ok (.if_icmp .ne 5, 3) := dk_160 0 5 (dk_at dksJ5_repeat_1 12 rfl rfl)
theorem dJ5_repeat_37 : decode cJ5_repeat 37 = .ok (.aload_n 0, 1) := dk_42 (dk_at dksJ5_repeat_1 15 rfl rfl)
theorem dJ5_repeat_38 : decode cJ5_repeat 38 = .ok (.areturn, 1) := dk_176 (dk_at dksJ5_repeat_1 16 rfl rfl)
theorem dJ5_repeat_39 : decode cJ5_repeat 39 = .ok (.aload_n 0, 1) := dk_42 (dk_at dksJ5_repeat_1 17 rfl rfl)
theorem dJ5_repeat_40 : decode cJ5_repeat 40 = .ok (.getfield 9, 3) := dk_180 0 9 (dk_at dksJ5_repeat_1 18 rfl rfl)
theorem dJ5_repeat_43 : decode cJ5_repeat 43 = .ok (.arraylength, 1) := dk_190 (dk_at dksJ5_repeat_1 21 rfl rfl)
theorem dJ5_repeat_44 : decode cJ5_repeat 44 = .ok (.istore_n 2, 1) := dk_61 (dk_at dksJ5_repeat_1 22 rfl rfl)
theorem dJ5_repeat_45 : decode cJ5_repeat 45 = .ok (.iload_n 2, 1) := dk_28 (dk_at dksJ5_repeat_1 23 rfl rfl)
theorem dJ5_repeat_46 : decode cJ5_repeat 46 = .ok (.ifCond .eq 7, 3) := dk_153 0 7 (dk_at dksJ5_repeat_2 0 rfl rfl)
theorem dJ5_repeat_49 : decode cJ5_repeat 49 = .ok (.iload_n 1, 1) := dk_27 (dk_at dksJ5_repeat_2 3 rfl rfl)
theorem dJ5_repeat_50 : decode cJ5_repeat 50 = .ok (.ifCond .ne 6, 3) := dk_154 0 6 (dk_at dksJ5_repeat_2 4 rfl rfl)
theorem dJ5_repeat_53 : decode cJ5_repeat 53 = .ok (.ldc 7, 2) := dk_18 7 (dk_at dksJ5_repeat_2 7 rfl rfl)
theorem dJ5_repeat_55 : decode cJ5_repeat 55 = .ok (.areturn, 1) := dk_176 (dk_at dksJ5_repeat_2 9 rfl rfl)
theorem dJ5_repeat_56 : decode cJ5_repeat 56 = .ok (.ldc_w 943, 3) := dk_19 3 175 (dk_at dksJ5_repeat_2 10 rfl rfl)
theorem dJ5_repeat_59 : decode cJ5_repeat 59 = .ok (.iload_n 1, 1) := dk_27 (dk_at dksJ5_repeat_2 13 rfl rfl)
theorem dJ5_repeat_60 : decode cJ5_repeat 60 = .ok (.idiv, 1) := dk_108 (dk_at dksJ5_repeat_2 14 rfl rfl)
theorem dJ5_repeat_61 : decode cJ5_repeat 61 = .ok (.iload_n 2, 1) := dk_28 (dk_at dksJ5_repeat_2 15 rfl rfl)
theorem dJ5_repeat_62 : decode cJ5_repeat 62 = .ok (.if_icmp .ge 14, 3) := dk_162 0 14 (dk_at dksJ5_repeat_2 16 rfl rfl)
theorem dJ5_repeat_65 : decode cJ5_repeat 65 = .ok (.new 748, 3) := dk_187 2 236 (dk_at dksJ5_repeat_2 19 rfl rfl)
theorem dJ5_repeat_68 : decode cJ5_repeat 68 = .ok (.dup, 1) := dk_89 (dk_at dksJ5_repeat_2 22 rfl rfl)
theorem dJ5_repeat_69 : decode cJ5_repeat 69 = .ok (.ldc_w 750, 3) := dk_19 2 238 (dk_at dksJ5_repeat_3 0 rfl rfl)
theorem dJ5_repeat_72 : decode cJ5_repeat 72 = .ok (.invokespecial 752, 3) := dk_183 2 240 (dk_at dksJ5_repeat_3 3 rfl rfl)
theorem dJ5_repeat_75 : decode cJ5_repeat 75 = .ok (.athrow, 1) := dk_191 (dk_at dksJ5_repeat_3 6 rfl rfl)
theorem dJ5_repeat_76 : decode cJ5_repeat 76 = .ok (.iload_n 2, 1) := dk_28 (dk_at dksJ5_repeat_3 7 rfl rfl)
theorem dJ5_repeat_77 : decode cJ5_repeat 77 = .ok (.iconst 1, 1) := dk_4 (dk_at dksJ5_repeat_3 8 rfl rfl)
theorem dJ5_repeat_78 : decode cJ5_repeat 78 = .ok (.if_icmp .ne 30, 3) := dk_160 0 30 (dk_at dksJ5_repeat_3 9 rfl rfl)
theorem dJ5_repeat_81 : decode cJ5_repeat 81 = .ok (.iload_n 1, 1) := dk_27 (dk_at dksJ5_repeat_3 12 rfl rfl)
theorem dJ5_repeat_82 : decode cJ5_repeat 82 = .ok (.newarray .byte, 2) := dk_188_8 (dk_at dksJ5_repeat_3 13 rfl rfl)
theorem dJ5_repeat_84 : decode cJ5_repeat 84 = .ok (.astore_n 3, 1) := dk_78 (dk_at dksJ5_repeat_3 15 rfl rfl)
theorem dJ5_repeat_85 : decode cJ5_repeat 85 = .ok (.aload_n 3, 1) := dk_45 (dk_at dksJ5_repeat_3 16 rfl rfl)
theorem dJ5_repeat_86 : decode cJ5_repeat 86 = .ok (.aload_n 0, 1) := dk_42 (dk_at dksJ5_repeat_3 17 rfl rfl)
theorem dJ5_repeat_87 : decode cJ5_repeat 87 = .ok (.getfield 9, 3) := dk_180 0 9 (dk_at dksJ5_repeat_3 18 rfl rfl)
theorem dJ5_repeat_90 : decode cJ5_repeat 90 = .ok (.iconst 0, 1) := dk_3 (dk_at dksJ5_repeat_3 21 rfl rfl)
theorem dJ5_repeat_91 : decode cJ5_repeat 91 = .ok (.baload, 1) := dk_51 (dk_at dksJ5_repeat_3 22 rfl rfl)
theorem dJ5_repeat_92 : decode cJ5_repeat 92 = .ok (.invokestatic 1041, 3) := dk_184 4 17 (dk_at dksJ5_repeat_4 0 rfl rfl)
theorem dJ5_repeat_95 : decode cJ5_repeat 95 = .ok (.new 10, 3) := dk_187 0 10 (dk_at dksJ5_repeat_4 3 rfl rfl)
theorem dJ5_repeat_98 : decode cJ5_repeat 98 = .ok (.dup, 1) := dk_89 (dk_at dksJ5_repeat_4 6 rfl rfl)
theorem dJ5_repeat_99 : decode cJ5_repeat 99 = .ok (.aload_n 3, 1) := dk_45 (dk_at dksJ5_repeat_4 7 rfl rfl)
theorem dJ5_repeat_100 : decode cJ5_repeat 100 = .ok (.aload_n 0, 1) := dk_42 (dk_at dksJ5_repeat_4 8 rfl rfl)
theorem dJ5_repeat_101 : decode cJ5_repeat 101 = .ok (.getfield 15, 3) := dk_180 0 15 (dk_at dksJ5_repeat_4 9 rfl rfl)
theorem dJ5_repeat_104 : decode cJ5_repeat 104 = .ok (.invokespecial 209, 3) := dk_183 0 209 (dk_at dksJ5_repeat_4 12 rfl rfl)
theorem dJ5_repeat_107 : decode cJ5_repeat 107 = .ok (.areturn, 1) := dk_176 (dk_at dksJ5_repeat_4 15 rfl rfl)
theorem dJ5_repeat_108 : decode cJ5_repeat 108 = .ok (.iload_n 2, 1) := dk_28 (dk_at dksJ5_repeat_4 16 rfl rfl)
theorem dJ5_repeat_109 : decode cJ5_repeat 109 = .ok (.iload_n 1, 1) := dk_27 (dk_at dksJ5_repeat_4 17 rfl rfl)
theorem dJ5_repeat_110 : decode cJ5_repeat 110 = .ok (.imul, 1) := dk_104 (dk_at dksJ5_repeat_4 18 rfl rfl)
theorem dJ5_repeat_111 : decode cJ5_repeat 111 = .ok (.istore_n 3, 1) := dk_62 (dk_at dksJ5_repeat_4 19 rfl rfl)
theorem dJ5_repeat_112 : decode cJ5_repeat 112 = .ok (.iload_n 3, 1) := dk_29 (dk_at dksJ5_repeat_4 20 rfl rfl)
theorem dJ5_repeat_113 : decode cJ5_repeat 113 = .ok (.newarray .byte, 2) := dk_188_8 (dk_at dksJ5_repeat_4 21 rfl rfl)
theorem dJ5_repeat_115 : decode cJ5_repeat 115 = .ok (.astore 4, 2) := dk_58 4 (dk_at dksJ5_repeat_5 0 rfl rfl)
theorem dJ5_repeat_117 : decode cJ5_repeat 117 = .ok (.aload_n 0, 1) := dk_42 (dk_at dksJ5_repeat_5 2 rfl rfl)
theorem dJ5_repeat_118 : decode cJ5_repeat 118 = .ok (.getfield 9, 3) := dk_180 0 9 (dk_at dksJ5_repeat_5 3 rfl rfl)
theorem dJ5_repeat_121 : decode cJ5_repeat 121 = .ok (.iconst 0, 1) := dk_3 (dk_at dksJ5_repeat_5 6 rfl rfl)
theorem dJ5_repeat_122 : decode cJ5_repeat 122 = .ok (.aload 4, 2) := dk_25 4 (dk_at dksJ5_repeat_5 7 rfl rfl)
theorem dJ5_repeat_124 : decode cJ5_repeat 124 = .ok (.iconst 0, 1) := dk_3 (dk_at dksJ5_repeat_5 9 rfl rfl)
theorem dJ5_repeat_125 : decode cJ5_repeat 125 = .ok (.iload_n 2, 1) := dk_28 (dk_at dksJ5_repeat_5 10 rfl rfl)
theorem dJ5_repeat_126 : decode cJ5_repeat 126 = .ok (.invokestatic 212, 3) := dk_184 0 212 (dk_at dksJ5_repeat_5 11 rfl rfl)
theorem dJ5_repeat_129 : decode cJ5_repeat 129 = .ok (.aload 4, 2) := dk_25 4 (dk_at dksJ5_repeat_5 14 rfl rfl)
theorem dJ5_repeat_131 : decode cJ5_repeat 131 = .ok (.iconst 0, 1) := dk_3 (dk_at dksJ5_repeat_5 16 rfl rfl)
theorem dJ5_repeat_132 : decode cJ5_repeat 132 = .ok (.iload_n 3, 1) := dk_29 (dk_at dksJ5_repeat_5 17 rfl rfl)
theorem dJ5_repeat_133 : decode cJ5_repeat 133 = .ok (.iload_n 2, 1) := dk_28 (dk_at dksJ5_repeat_5 18 rfl rfl)
theorem dJ5_repeat_134 : decode cJ5_repeat 134 = .ok (.invokestatic 1044, 3) := dk_184 4 20 (dk_at dksJ5_repeat_5 19 rfl rfl)
theorem dJ5_repeat_137 : decode cJ5_repeat 137 = .ok (.new 10, 3) := dk_187 0 10 (dk_at dksJ5_repeat_6 0 rfl rfl)
theorem dJ5_repeat_140 : decode cJ5_repeat 140 = .ok (.dup, 1) := dk_89 (dk_at dksJ5_repeat_6 3 rfl rfl)
theorem dJ5_repeat_141 : decode cJ5_repeat 141 = .ok (.aload 4, 2) := dk_25 4 (dk_at dksJ5_repeat_6 4 rfl rfl)
theorem dJ5_repeat_143 : decode cJ5_repeat 143 = .ok (.aload_n 0, 1) := dk_42 (dk_at dksJ5_repeat_6 6 rfl rfl)
theorem dJ5_repeat_144 : decode cJ5_repeat 144 = .ok (.getfield 15, 3) := dk_180 0 15 (dk_at dksJ5_repeat_6 7 rfl rfl)
theorem dJ5_repeat_147 : decode cJ5_repeat 147 = .ok (.invokespecial 209, 3) := dk_183 0 209 (dk_at dksJ5_repeat_6 10 rfl rfl)
theorem dJ5_repeat_150 : decode cJ5_repeat 150 = .ok (.areturn, 1) := dk_176 (dk_at dksJ5_repeat_6 13 rfl rfl)
theorem yd_J13_fill_3 : yJ13_fill_3.cls ≠ "java/lang/invoke/MethodHandle" ∧ yJ13_fill_3.cls ≠ "java/lang/invoke/VarHandle" ∧ (parseMethodDescriptor yJ13_fill_3.desc).map (fun d => d.parameters.length) = some 2 := by decide +kernel
theorem ydv_J5_value : yJ5_value.cls = "java/lang/String" ∧ yJ5_value.cls ≠ "java/lang/invoke/MethodHandle" ∧ yJ5_value.cls ≠ "java/lang/invoke/VarHandle" ∧ (parseMethodDescriptor yJ5_value.desc).map (fun d => d.parameters.length) = some 0 := by decide +kernel
theorem yd_J5_valueOf : yJ5_valueOf.cls ≠ "java/lang/invoke/MethodHandle" ∧ yJ5_valueOf.cls ≠ "java/lang/invoke/VarHandle" ∧ (parseMethodDescriptor yJ5_valueOf.desc).map (fun d => d.parameters.length) = some 1 := by decide +kernel
theorem ydu_J6_append_5 : yJ6_append_5.name ≠ "<init>" ∧ (parseMethodDescriptor yJ6_append_5.desc).map (fun d => d.parameters.length) = some 3 := by decide +kernel
theorem yd_J6_init : yJ6_init.cls ≠ "java/lang/invoke/MethodHandle" ∧ yJ6_init.cls ≠ "java/lang/invoke/VarHandle" ∧ (parseMethodDescriptor yJ6_init.desc).map (fun d => d.parameters.length) = some 1 := by decide +kernel
/-! ### texts of numbers and builders -/
theorem gcel_le (c n : Nat) (h : n ≤ c) : gcel c n = 0 := if_pos h
theorem gcst_le (c n : Nat) (h : n ≤ c) : gcst c n = 0 := if_pos h
theorem gcap_le (c n : Nat) (h : n ≤ c) : gcap c n = c := if_pos h
theorem sub_c {T : List Nat} (h : ∀ c ∈ T, c < 128) (u j : Nat) : ∀ c ∈ sub T u j, c < 128 := fun c hc => h c (List.mem_of_mem_drop (List.mem_of_mem_take hc))
theorem cpy_sub {T : List Nat} {f : Nat → Int32} {u p j : Nat} (h : u + j ≤ T.length) : va_cpy (bof T) f u p j = ovl f p (sub T u j) := by
  funext i
  unfold va_cpy ovl
  rw [sub_len h]
  by_cases q : p ≤ i ∧ i < p + j
  · rw [if_pos q, if_pos q, sub_at (by omega)]
    rfl
  · rw [if_neg q, if_neg q]
theorem rep_at (n c i : Nat) (h : i < n) : (List.replicate n c).getD i 0 = c := by
  rw [List.getD_eq_getElem?_getD, List.getElem?_replicate_of_lt h]
  rfl

set_option maxHeartbeats 1000000 in
theorem m_valueOfSB (l : Launch) (z : State) (H0 : Heap) (a : Nat) (b cap : Nat) (T : List Nat) (k : Nat → Nat) (fv : Nat → Value) (hg : gB z H0 a b cap T) (hzw : zW z) (hs : sS z k fv (gfr H0) H0) : Met l yJ5_valueOf (ws_ yJ5_valueOf cJ5_valueOf 1 (some (.object "java/lang/String"))) { frames := 6, cells := 2, slots := (4 + T.length), locals := 151 } (gPc z H0 [.ref a]) (gRr (gfr H0) H0 (fun r H1 => H0.size ≤ r ∧ ∃ b1, H0.size ≤ b1 ∧ gS z true H1 r b1 T)) 2 (4 + T.length) (gfr H0) := by
  refine g_start (by decide +kernel) (Nat.le_of_ble_eq_true rfl) ?_
  intro p e s m below meth c ls hx hb hr hlocks hml hown hname hts hwm hl
  have hown : s.vm.findClass "java/lang/String" = some m.cls := hown
  have hal : z.vm.Alike s.vm := hwm.alike
  have hCF : CallFix p m c cJ5_valueOf 1 s [.ref a].toArray lw_all "java/lang/String" := ⟨hx, hb, hml, hown, hts⟩
  have hl : lv_has ls 1 [(0, .ref a)] := hl
  have hS : va_S (gfr H0) H0 H0 [] := va_S.rf
  obtain ⟨ml, f, hO, hB, hf, hF, hc, hc9, hT⟩ := hg
  have lt_a := hO.lt
  have lt_b := hB.lt
  refine lv_aload_n hx hb dJ5_valueOf_0 rfl (lv_at hl 0 rfl) ?_
  refine lv_ifnonnull (tgt := 10) hx hb dJ5_valueOf_1 (by decide) ?_
  refine lv_aload_n hx hb dJ5_valueOf_10 rfl (lv_at hl 0 rfl) ?_
  refine gcX0_r hCF hwm hl.1 (m_sbToString l z H0 a b cap T k fv ⟨ml, f, hO, hB, hf, hF, hc, hc9, hT⟩ hzw (hs.cur hS) ) (va_cwA (owner := "java/lang/Object") (x := ⟨"java/lang/Object", "toString", "()Ljava/lang/String;"⟩) 0 hts (lw_app (lw_list5 q749 q751 q801 q450 q67) (lw_meth q452)) rfl rfl rfl (va_Nw.warmD hwm hzw.2.2.2.2.2) ⟨by decide, by decide, by decide +kernel⟩ ⟨Nat.le_of_ble_eq_true rfl, Nat.le_of_ble_eq_true rfl⟩) (hO.recv hal) hS (fun q h => by have hsz := hS.1; (try dsimp only [gfr] at h ⊢) <;> omega) ⟨by first | omega | (dsimp only; omega), by first | omega | (dsimp only; omega)⟩ (Nat.le_of_ble_eq_true rfl) dJ5_valueOf_11 (fun rs H_1 locs hp hex hS => ?_)
  have sz_H_1 : H0.size ≤ H_1.size := hex.1
  have hgx := hex.x
  clear hex
  have hO := hO.x hgx
  have hB := hB.x hgx
  have hN := hp
  refine g_aret hx hb hr hlocks (Or.inl ⟨_, rfl⟩) hS (by first | omega | (dsimp only; omega)) (by first | omega | (dsimp only; omega)) ?_ dJ5_valueOf_14
  exact hN
set_option maxHeartbeats 1000000 in
theorem m_appendSB (l : Launch) (z : State) (H0 : Heap) (a : Nat) (x : Nat) (b cap : Nat) (T : List Nat) (b2 cap2 : Nat) (T2 : List Nat) (k : Nat → Nat) (fv : Nat → Value) (hg : gB z H0 a b cap T) (hg2 : gB z H0 x b2 cap2 T2) (hxa : x ≠ a) (hxb : x ≠ b) (h2a : b2 ≠ a) (h2b : b2 ≠ b) (hn9 : gcap cap (T.length + T2.length) < 1000000) (hzw : zW z) (hs : sS z k fv (fun q => q = a ∨ q = b ∨ H0.size ≤ q) H0) : Met l yJ7_append_5 (ws_ yJ7_append_5 cJ7_append_5 2 (some (.object "java/lang/StringBuilder"))) { frames := 7, cells := (2 + gcel cap (T.length + T2.length)), slots := (4 + T2.length + gcst cap (T.length + T2.length)), locals := 171 } (gPc z H0 [.ref a, .ref x]) (gRr (fun q => q = a ∨ q = b ∨ H0.size ≤ q) H0 (fun r H1 => r = a ∧ ∃ b1, gB z H1 a b1 (gcap cap (T.length + T2.length)) (T ++ T2) ∧ (b1 = b ∨ H0.size ≤ b1))) (2 + gcel cap (T.length + T2.length)) (4 + T2.length + gcst cap (T.length + T2.length)) (fun q => q = a ∨ q = b ∨ H0.size ≤ q) := by
  refine g_start (by decide +kernel) (Nat.le_of_ble_eq_true rfl) ?_
  intro p e s m below meth c ls hx hb hr hlocks hml hown hname hts hwm hl
  have hown : s.vm.findClass "java/lang/StringBuilder" = some m.cls := hown
  have hal : z.vm.Alike s.vm := hwm.alike
  have hCF : CallFix p m c cJ7_append_5 2 s [.ref a, .ref x].toArray lw_all "java/lang/StringBuilder" := ⟨hx, hb, hml, hown, hts⟩
  have hl : lv_has ls 2 [(0, .ref a), (1, .ref x)] := hl
  have hS : va_S (fun q => q = a ∨ q = b ∨ H0.size ≤ q) H0 H0 [] := va_S.rf
  obtain ⟨ml, f, hO, hB, hf, hF, hc, hc9, hT⟩ := hg
  obtain ⟨ml2, f2, hO2, hB2, hf2, hF2, hc2, hc92, hT2⟩ := hg2
  have lt_a := hO.lt
  have lt_b := hB.lt
  have lt_x := hO2.lt
  have lt_b2 := hB2.lt
  refine lv_aload_n hx hb dJ7_append_5_0 rfl (lv_at hl 0 rfl) ?_
  refine lv_aload_n hx hb dJ7_append_5_1 rfl (lv_at hl 1 rfl) ?_
  refine gcS1_r hCF hwm hl.1 (m_valueOfSB l z H0 x b2 cap2 T2 k fv ⟨ml2, f2, hO2, hB2, hf2, hF2, hc2, hc92, hT2⟩ hzw (hs.call hS (fun q h => by have hsz := hS.1; (try dsimp only [gfr] at h ⊢) <;> omega)) ) (lw_S q744 q745 q64 q746) yd_J5_valueOf hS (fun q h => by have hsz := hS.1; (try dsimp only [gfr] at h ⊢) <;> omega) ⟨Nat.le_of_ble_eq_true rfl, Nat.le_of_ble_eq_true rfl⟩ ⟨by first | omega | (dsimp only; omega), by first | omega | (dsimp only; omega)⟩ (Nat.le_of_ble_eq_true rfl) dJ7_append_5_2 (fun rs H_1 locs hp hex hS => ?_)
  have sz_H_1 : H0.size ≤ H_1.size := hex.1
  have hgx := hex.x
  clear hex
  have hO := hO.x hgx
  have hB := hB.x hgx
  have hO2 := hO2.x hgx
  have hB2 := hB2.x hgx
  obtain ⟨hr1, b3, hb3, hN⟩ := hp
  have hlt3 := hN.lt
  refine gcV1_r hCF hwm hl.1 (m_append l z H_1 a rs b cap T true b3 T2 k fv ⟨ml, f, hO, hB, hf, hF, hc, hc9, hT⟩ hn9 hN (by omega) (by omega) (hs.call hS (fun q h => by have hsz := hS.1; (try dsimp only [gfr] at h ⊢) <;> omega)) ) (lw_V q244 q245 q246 q67 q247) ydv_J7_append_2 (hO.recv hal) hS (fun q h => by have hsz := hS.1; (try dsimp only [gfr] at h ⊢) <;> omega) ⟨Nat.le_of_ble_eq_true rfl, Nat.le_of_ble_eq_true rfl⟩ ⟨by first | omega | (dsimp only; omega), by first | omega | (dsimp only; omega)⟩ (Nat.le_of_ble_eq_true rfl) dJ7_append_5_5 (fun r5 H_2 locs hp hex hS => ?_)
  have sz_H_2 : H_1.size ≤ H_2.size := hex.1
  have hO2 := hO2.ex hex (by intro h; (try dsimp only [gfr] at h) <;> omega)
  have hB2 := hB2.ex hex (by intro h; (try dsimp only [gfr] at h) <;> omega)
  obtain ⟨hr5, b1, hg1, hb1⟩ := hp
  refine g_aret hx hb hr hlocks (Or.inl ⟨_, rfl⟩) hS (by first | omega | (dsimp only; omega)) (by first | omega | (dsimp only; omega)) ?_ dJ7_append_5_8
  exact ⟨hr5, b1, hg1, by omega⟩
set_option maxHeartbeats 1000000 in
theorem m_sbInitS6 (l : Launch) (z : State) (H0 : Heap) (a : Nat) (x : Nat) (w2 : Bool) (b2 : Nat) (T2 : List Nat) (k : Nat → Nat) (fv : Nat → Value) (hxa : x ≠ a) (h2a : b2 ≠ a) (hn : T2.length < 900000) (hO : gO z true RJ7 TJ7 4 H0 a [.null, .int 0, .int 0, .int 0]) (hstr2 : gS z w2 H0 x b2 T2) (hs : sS z k fv (fun q => q = a ∨ H0.size ≤ q) H0) : Met l yJ6_init (ws_ yJ6_init cJ6_init 5 (none)) { frames := 7, cells := 1, slots := (T2.length + 16), locals := 155 } (gPc z H0 [.ref a, .ref x]) (gRv (fun q => q = a ∨ H0.size ≤ q) H0 (fun H1 => ∃ b1, H0.size ≤ b1 ∧ gB z H1 a b1 (T2.length + 16) T2)) 1 (T2.length + 16) (fun q => q = a ∨ H0.size ≤ q) := by
  refine g_start (by decide +kernel) (Nat.le_of_ble_eq_true rfl) ?_
  intro p e s m below meth c ls hx hb hr hlocks hml hown hname hts hwm hl
  have hown : s.vm.findClass "java/lang/AbstractStringBuilder" = some m.cls := hown
  have hal : z.vm.Alike s.vm := hwm.alike
  have hCF : CallFix p m c cJ6_init 5 s [.ref a, .ref x].toArray lw_all "java/lang/AbstractStringBuilder" := ⟨hx, hb, hml, hown, hts⟩
  have hl : lv_has ls 5 [(0, .ref a), (1, .ref x)] := hl
  have hS : va_S (fun q => q = a ∨ H0.size ≤ q) H0 H0 [] := va_S.rf
  obtain ⟨h2, hz2, hO2, hB2, hT2⟩ := hstr2
  have hT21 := hT2.1
  have e1 := gcel_le (T2.length + 16) (([] : List Nat).length + T2.length) (by simp)
  have e2 := gcst_le (T2.length + 16) (([] : List Nat).length + T2.length) (by simp)
  have e3 := gcap_le (T2.length + 16) (([] : List Nat).length + T2.length) (by simp)
  have lt_a := hO.lt
  have lt_x := hO2.lt
  have lt_b2 := hB2.lt
  refine lv_aload_n hx hb dJ6_init_0 rfl (lv_at hl 0 rfl) ?_
  refine W.objInit hx hb hown (hts _ q217) (hts _ q110) (hts _ q111) rfl (by rw [hml]; exact hl.1) rfl dJ6_init_1 (Nat.le_of_ble_eq_true rfl) (Nat.le_of_ble_eq_true rfl) ?_
  refine W.eq (g2 := F0 m 4 ls []) rfl ?_
  refine lv_aload_n hx hb dJ6_init_4 rfl (lv_at hl 1 rfl) ?_
  refine gcV0_iP hCF hwm hl.1 (m_length l z H0 x w2 b2 T2 k fv ⟨h2, hz2, hO2, hB2, hT2⟩ (hs.cur hS) ) (lw_V q218 q219 q220 q64 q221) ydv_J5_length (hO2.recv hal) ⟨Nat.le_of_ble_eq_true rfl, Nat.le_of_ble_eq_true rfl⟩ ⟨by first | omega | (dsimp only; omega), by first | omega | (dsimp only; omega)⟩ (Nat.le_of_ble_eq_true rfl) dJ6_init_5 (fun r_1 hp => ?_)
  subst hp
  refine lv_istore_n hx hb dJ6_init_8 rfl hl (by decide) rfl (fun ls hl => ?_)
  have hl : lv_has ls 5 [(2, .int (nI T2.length)), (0, .ref a), (1, .ref x)] := hl
  refine lv_iload_n hx hb dJ6_init_9 rfl (lv_at hl 0 rfl) ?_
  refine lv_ldc (v := 2147483631) hx hb hown (hts _ q228) dJ6_init_10 ?_
  refine lv_icmp_ge (tgt := 22) hx hb dJ6_init_12 (by decide) (fun c_12 => False.elim (by
    have c_12 := (ai_le (a := 2147483631) (b := T2.length) (rfl) (rfl) (by omega) (by omega)).mp c_12
    omega)) (fun c_12 => ?_)
  have c_12 := mt (ai_le (a := 2147483631) (b := T2.length) (rfl) (rfl) (by omega) (by omega)).mpr c_12
  refine lv_iload_n hx hb dJ6_init_15 rfl (lv_at hl 0 rfl) ?_
  refine lv_bipush (v := 16) hx hb dJ6_init_16 (by decide) ?_
  refine lv_iadd hx hb dJ6_init_18 ?_
  refine g_topi (v := nI (T2.length + 16)) (ai_add (a := T2.length) (b := 16) (rfl) (rfl)) ?_
  refine lv_goto (tgt := 24) hx hb dJ6_init_19 (by decide) ?_
  refine lv_istore_n hx hb dJ6_init_24 rfl hl (by decide) rfl (fun ls hl => ?_)
  have hl : lv_has ls 5 [(3, .int (nI (T2.length + 16))), (2, .int (nI T2.length)), (0, .ref a), (1, .ref x)] := hl
  refine lv_aload_n hx hb dJ6_init_25 rfl (lv_at hl 3 rfl) ?_
  refine gcV0_iP hCF hwm hl.1 (m_coder l z H0 x w2 b2 T2 k fv ⟨h2, hz2, hO2, hB2, hT2⟩ (hs.cur hS) ) (lw_V q230 q223 q224 q64 q225) ydv_J5_coder (hO2.recv hal) ⟨Nat.le_of_ble_eq_true rfl, Nat.le_of_ble_eq_true rfl⟩ ⟨by first | omega | (dsimp only; omega), by first | omega | (dsimp only; omega)⟩ (Nat.le_of_ble_eq_true rfl) dJ6_init_26 (fun r_2 hp => ?_)
  subst hp
  refine lv_istore hx hb dJ6_init_29 hl (by decide) rfl (fun ls hl => ?_)
  have hl : lv_has ls 5 [(4, .int 0), (3, .int (nI (T2.length + 16))), (2, .int (nI T2.length)), (0, .ref a), (1, .ref x)] := hl
  refine lv_aload_n hx hb dJ6_init_31 rfl (lv_at hl 3 rfl) ?_
  refine lv_iload hx hb dJ6_init_32 (lv_at hl 0 rfl) ?_
  refine gw_put (C := RJ7) (T := TJ7) (N := 4) (ty := .byte) (v := .int 0) hx hb hts in_J7 tyJ7 tyJ7_ok nmJ7 (hts _ q192) hown hal hO hS (by have hsz := hS.1; (try dsimp only [gfr]) <;> omega) 1 (by decide) (hts _ q355) (fun _ h9 => h9) rfl (by decide +kernel) (rfl) (rfl) (Nat.le_of_ble_eq_true rfl) dJ6_init_34 (fun H_3 locs h_new hch hS => ?_)
  have hO2 := hO2.ch hch (by omega)
  have hB2 := hB2.ch hch (by omega)
  have sz_H_3 := hch.1
  clear hch
  have hO : gO z true RJ7 TJ7 4 H_3 a [.null, .int 0, .int 0, .int 0] := h_new
  refine lv_aload_n hx hb dJ6_init_37 rfl (lv_at hl 3 rfl) ?_
  refine lv_iload hx hb dJ6_init_38 (lv_at hl 0 rfl) ?_
  refine lv_if_ne (tgt := 49) hx hb dJ6_init_40 (by decide) (fun c_40 => absurd (rfl) c_40) (fun c_40 => ?_)
  refine lv_iload_n hx hb dJ6_init_43 rfl (lv_at hl 1 rfl) ?_
  refine gw_newa (atype := .byte) (ty := .byte) (N' := (T2.length + 16)) hx hb (hts _ q167) rfl hal hS (rfl) (by omega) (by simp [componentBytes]; omega) (by first | omega | (dsimp only; omega)) (by first | omega | (dsimp only; omega)) dJ6_init_44 (fun qa H_4 eqa zqa hgx h_qa hS => ?_)
  have hO := hO.x hgx
  have hO2 := hO2.x hgx
  have hB2 := hB2.x hgx
  have h_qa : gI z true .byte H_4 qa (T2.length + 16) (fun _ => 0) := h_qa
  refine lv_goto (tgt := 53) hx hb dJ6_init_46 (by decide) ?_
  refine gw_put (C := RJ7) (T := TJ7) (N := 4) (ty := (.array .byte)) (v := .ref qa) hx hb hts in_J7 tyJ7 tyJ7_ok nmJ7 (hts _ q192) hown hal hO hS (by have hsz := hS.1; (try dsimp only [gfr]) <;> omega) 0 (by decide) (hts _ q354) (fun _ h9 => h9) rfl (by decide +kernel) (rfl) (rfl) (Nat.le_of_ble_eq_true rfl) dJ6_init_53 (fun H_5 locs h_new hch hS => ?_)
  have hO2 := hO2.ch hch (by omega)
  have hB2 := hB2.ch hch (by omega)
  have h_qa := h_qa.ch hch (by omega)
  have sz_H_5 := hch.1
  clear hch
  have hO : gO z true RJ7 TJ7 4 H_5 a [.ref qa, .int 0, .int 0, .int 0] := h_new
  refine lv_aload_n hx hb dJ6_init_56 rfl (lv_at hl 3 rfl) ?_
  refine lv_aload_n hx hb dJ6_init_57 rfl (lv_at hl 4 rfl) ?_
  refine gcX1_r hCF hwm hl.1 (m_appendBr l z H_5 a x qa (T2.length + 16) [] w2 b2 T2 k fv ⟨0, _, hO, h_qa, fun i hi => by simp at hi, fun i hi => fits0, Nat.zero_le _, by omega, fun c hc => by simp at hc⟩ (by omega) ⟨h2, hz2, hO2, hB2, hT2⟩ hxa (by omega) (hs.call hS (fun q h => by have hsz := hS.1; (try dsimp only [gfr] at h ⊢) <;> omega)) ) (va_cwO (owner := "java/lang/AbstractStringBuilder") (x := ⟨"java/lang/AbstractStringBuilder", "append", "(Ljava/lang/String;)Ljava/lang/AbstractStringBuilder;"⟩) 1 hts (lw_app (lw_list6 q238 q240 q239 q241 q242 q67) (lw_meth q243)) rfl rfl rfl q250 ⟨by decide, by decide, by decide +kernel⟩ ⟨Nat.le_of_ble_eq_true rfl, Nat.le_of_ble_eq_true rfl⟩) (hO.recv hal) hS (fun q h => by have hsz := hS.1; (try dsimp only [gfr] at h ⊢) <;> omega) ⟨by first | omega | (dsimp only; omega), by first | omega | (dsimp only; omega)⟩ (Nat.le_of_ble_eq_true rfl) dJ6_init_58 (fun r5 H_6 locs hp hex hS => ?_)
  have sz_H_6 : H_5.size ≤ H_6.size := hex.1
  have hO2 := hO2.ex hex (by intro h; (try dsimp only [gfr] at h) <;> omega)
  have hB2 := hB2.ex hex (by intro h; (try dsimp only [gfr] at h) <;> omega)
  obtain ⟨hr5, b1, hg1, hb1⟩ := hp
  rw [e3] at hg1
  refine lv_pop hx hb dJ6_init_61 rfl ?_
  refine g_vret hx hb hr hlocks hS (by first | omega | (dsimp only; omega)) (by first | omega | (dsimp only; omega)) ?_ dJ6_init_62
  exact ⟨b1, by omega, hg1⟩
set_option maxHeartbeats 1000000 in
theorem m_sbInitS (l : Launch) (z : State) (H0 : Heap) (a : Nat) (x : Nat) (w2 : Bool) (b2 : Nat) (T2 : List Nat) (k : Nat → Nat) (fv : Nat → Value) (hxa : x ≠ a) (h2a : b2 ≠ a) (hn : T2.length < 900000) (hO : gO z true RJ7 TJ7 4 H0 a [.null, .int 0, .int 0, .int 0]) (hstr2 : gS z w2 H0 x b2 T2) (hs : sS z k fv (fun q => q = a ∨ H0.size ≤ q) H0) : Met l yJ7_init (ws_ yJ7_init cJ7_init 2 (none)) { frames := 8, cells := 1, slots := (T2.length + 16), locals := 179 } (gPc z H0 [.ref a, .ref x]) (gRv (fun q => q = a ∨ H0.size ≤ q) H0 (fun H1 => ∃ b1, H0.size ≤ b1 ∧ gB z H1 a b1 (T2.length + 16) T2)) 1 (T2.length + 16) (fun q => q = a ∨ H0.size ≤ q) := by
  refine g_start (by decide +kernel) (Nat.le_of_ble_eq_true rfl) ?_
  intro p e s m below meth c ls hx hb hr hlocks hml hown hname hts hwm hl
  have hown : s.vm.findClass "java/lang/StringBuilder" = some m.cls := hown
  have hal : z.vm.Alike s.vm := hwm.alike
  have hCF : CallFix p m c cJ7_init 2 s [.ref a, .ref x].toArray lw_all "java/lang/StringBuilder" := ⟨hx, hb, hml, hown, hts⟩
  have hl : lv_has ls 2 [(0, .ref a), (1, .ref x)] := hl
  have hS : va_S (fun q => q = a ∨ H0.size ≤ q) H0 H0 [] := va_S.rf
  obtain ⟨h2, hz2, hO2, hB2, hT2⟩ := hstr2
  have hT21 := hT2.1
  have lt_a := hO.lt
  have lt_x := hO2.lt
  have lt_b2 := hB2.lt
  refine lv_aload_n hx hb dJ7_init_0 rfl (lv_at hl 0 rfl) ?_
  refine lv_aload_n hx hb dJ7_init_1 rfl (lv_at hl 1 rfl) ?_
  refine gcI1_v hCF hwm hl.1 (m_sbInitS6 l z H0 a x w2 b2 T2 k fv hxa h2a hn hO ⟨h2, hz2, hO2, hB2, hT2⟩ hs ) q214 q215 q66 q216 rfl yd_J6_init hS (fun q h => by have hsz := hS.1; (try dsimp only [gfr] at h ⊢) <;> omega) ⟨Nat.le_of_ble_eq_true rfl, Nat.le_of_ble_eq_true rfl⟩ ⟨by first | omega | (dsimp only; omega), by first | omega | (dsimp only; omega)⟩ (Nat.le_of_ble_eq_true rfl) dJ7_init_2 (fun H_1 locs hp hex hS => ?_)
  have sz_H_1 : H0.size ≤ H_1.size := hex.1
  have hN := hp
  refine g_vret hx hb hr hlocks hS (by first | omega | (dsimp only; omega)) (by first | omega | (dsimp only; omega)) ?_ dJ7_init_5
  exact hN
set_option maxHeartbeats 1000000 in
theorem m_appChars (l : Launch) (z : State) (H0 : Heap) (a : Nat) (x : Nat) (u v : Nat) (b cap : Nat) (T : List Nat) (w2 : Bool) (b2 : Nat) (T2 : List Nat) (k : Nat → Nat) (fv : Nat → Value) (huv : u ≤ v) (hv : v ≤ T2.length) (hcap : T.length + (v - u) ≤ cap) (hg : gB z H0 a b cap T) (hstr2 : gS z w2 H0 x b2 T2) (hxa : x ≠ a) (hne : b2 ≠ b) (hs : sS z k fv (fun q => q = a ∨ q = b) H0) : Met l yJ6_appendChars (ws_ yJ6_appendChars cJ6_appendChars 8 (none)) { frames := 1, cells := 0, slots := 0, locals := 40 } (gPc z H0 [.ref a, .ref x, .int (nI u), .int (nI v)]) (gRv (fun q => q = a ∨ q = b) H0 (fun H1 => gB z H1 a b cap (T ++ (sub T2 u (v - u))))) 0 0 (fun q => q = a ∨ q = b) := by
  refine g_start (by decide +kernel) (Nat.le_of_ble_eq_true rfl) ?_
  intro p e s m below meth c ls hx hb hr hlocks hml hown hname hts hwm hl
  have hown : s.vm.findClass "java/lang/AbstractStringBuilder" = some m.cls := hown
  have hal : z.vm.Alike s.vm := hwm.alike
  have hCF : CallFix p m c cJ6_appendChars 8 s [.ref a, .ref x, .int (nI u), .int (nI v)].toArray lw_all "java/lang/AbstractStringBuilder" := ⟨hx, hb, hml, hown, hts⟩
  have hl : lv_has ls 8 [(0, .ref a), (1, .ref x), (2, .int (nI u)), (3, .int (nI v))] := hl
  have hS : va_S (fun q => q = a ∨ q = b) H0 H0 [] := va_S.rf
  obtain ⟨ml, f, hO, hB, hf, hF, hc, hc9, hT⟩ := hg
  obtain ⟨h2, hz2, hO2, hB2, hT2⟩ := hstr2
  have hT21 := hT2.1
  have hab : a ≠ b := gA.neO2 hal hB hO (hts _ q192)
  have hxb : x ≠ b := gA.neO2 hal hB hO2 (hts _ q166)
  have h2a : b2 ≠ a := Ne.symm (gA.neO2 hal hB2 hO (hts _ q192))
  have lt_a := hO.lt
  have lt_b := hB.lt
  have lt_x := hO2.lt
  have lt_b2 := hB2.lt
  refine lv_aload_n hx hb dJ6_appendChars_0 rfl (lv_at hl 0 rfl) ?_
  refine gcU0_iP (owner := RJ6) (x := yJ6_isLatin1) rfl hCF hwm hl.1 (m_sbLatin l z H0 a b ml (nI T.length) k fv hO (hs.cur hS) ) (lw_app (lw_list5 q289 q291 q292 q290 q66) (lw_meth q293)) (by decide +kernel) (hO.recv hal) ⟨Nat.le_of_ble_eq_true rfl, Nat.le_of_ble_eq_true rfl⟩ ⟨Nat.le_of_ble_eq_true rfl, Nat.le_of_ble_eq_true rfl⟩ (Nat.le_of_ble_eq_true rfl) dJ6_appendChars_1 (fun r_1 hp => ?_)
  subst hp
  refine lv_if_eq (tgt := 145) hx hb dJ6_appendChars_4 (by decide) (fun c_4 => absurd c_4 (by decide)) (fun c_4 => ?_)
  refine lv_aload_n hx hb dJ6_appendChars_7 rfl (lv_at hl 1 rfl) ?_
  refine gcV0_iP hCF hwm hl.1 (m_isLatin1 l z H0 x w2 b2 T2 k fv ⟨h2, hz2, hO2, hB2, hT2⟩ hs ) (lw_V q953 q543 q544 q64 q545) ydv_J5_isLatin1 (hO2.recv hal) ⟨Nat.le_of_ble_eq_true rfl, Nat.le_of_ble_eq_true rfl⟩ ⟨Nat.le_of_ble_eq_true rfl, Nat.le_of_ble_eq_true rfl⟩ (Nat.le_of_ble_eq_true rfl) dJ6_appendChars_8 (fun r_2 hp => ?_)
  subst hp
  refine lv_if_eq (tgt := 36) hx hb dJ6_appendChars_11 (by decide) (fun c_11 => absurd c_11 (by decide)) (fun c_11 => ?_)
  refine lv_aload_n hx hb dJ6_appendChars_14 rfl (lv_at hl 1 rfl) ?_
  refine gcV0_rP hCF hwm hl.1 (m_value l z H0 x w2 b2 T2 k fv ⟨h2, hz2, hO2, hB2, hT2⟩ hs ) (lw_V q954 q955 q956 q64 q957) ydv_J5_value (hO2.recv hal) ⟨Nat.le_of_ble_eq_true rfl, Nat.le_of_ble_eq_true rfl⟩ ⟨Nat.le_of_ble_eq_true rfl, Nat.le_of_ble_eq_true rfl⟩ (Nat.le_of_ble_eq_true rfl) dJ6_appendChars_15 (fun r_3 hp => ?_)
  replace hp := hp.symm
  subst hp
  refine lv_iload_n hx hb dJ6_appendChars_18 rfl (lv_at hl 2 rfl) ?_
  refine lv_aload_n hx hb dJ6_appendChars_19 rfl (lv_at hl 0 rfl) ?_
  refine gw_get (C := RJ7) (T := TJ7) (N := 4) (v := .ref b) hx hb hts in_J7 hown hal hO 0 (by decide) (hts _ q354) (fun _ h9 => h9) rfl dJ6_appendChars_20 ?_
  refine lv_aload_n hx hb dJ6_appendChars_23 rfl (lv_at hl 0 rfl) ?_
  refine gw_get (C := RJ7) (T := TJ7) (N := 4) (v := .int (nI T.length)) hx hb hts in_J7 hown hal hO 3 (by decide) (hts _ q358) (fun _ h9 => h9) rfl dJ6_appendChars_24 ?_
  refine lv_iload_n hx hb dJ6_appendChars_27 rfl (lv_at hl 3 rfl) ?_
  refine lv_iload_n hx hb dJ6_appendChars_28 rfl (lv_at hl 2 rfl) ?_
  refine lv_isub hx hb dJ6_appendChars_29 ?_
  refine g_topi (v := nI (v - u)) (ai_sub (a := v) (b := u) (rfl) (rfl) (by omega)) ?_
  refine gw_copy hx hb (hml.trans hl.1.symm) hal hown (hts _ q958) (hts _ q288) (hts _ q287) (hts _ q74) rfl hB2 hB hS (by have hsz := hS.1; (try dsimp only [gfr]) <;> omega) u T.length (v - u) (rfl) (rfl) (rfl) (by omega) (by omega) (by omega) (by omega) (fun i hi => fit_bof hT2 _) (Nat.le_of_ble_eq_true rfl) (Nat.le_of_ble_eq_true rfl) dJ6_appendChars_30 (fun H_4 locs h_new hch hS => ?_)
  have hO := hO.ch hch (by omega)
  have hO2 := hO2.ch hch (by omega)
  have hB2 := hB2.ch hch (by omega)
  have sz_H_4 := hch.1
  clear hch
  have hB : gI z true .byte H_4 b cap (va_cpy (bof T2) f u T.length (v - u)) := h_new
  refine lv_goto (tgt := 194) hx hb dJ6_appendChars_33 (by decide) ?_
  refine lv_aload_n hx hb dJ6_appendChars_194 rfl (lv_at hl 0 rfl) ?_
  refine lv_dup hx hb dJ6_appendChars_195 rfl ?_
  refine gw_get (C := RJ7) (T := TJ7) (N := 4) (v := .int (nI T.length)) hx hb hts in_J7 hown hal hO 3 (by decide) (hts _ q358) (fun _ h9 => h9) rfl dJ6_appendChars_196 ?_
  refine lv_iload_n hx hb dJ6_appendChars_199 rfl (lv_at hl 3 rfl) ?_
  refine lv_iload_n hx hb dJ6_appendChars_200 rfl (lv_at hl 2 rfl) ?_
  refine lv_isub hx hb dJ6_appendChars_201 ?_
  refine g_topi (v := nI (v - u)) (ai_sub (a := v) (b := u) (rfl) (rfl) (by omega)) ?_
  refine lv_iadd hx hb dJ6_appendChars_202 ?_
  refine g_topi (v := nI (T.length + (v - u))) (ai_add (a := T.length) (b := (v - u)) (rfl) (rfl)) ?_
  refine gw_put (C := RJ7) (T := TJ7) (N := 4) (ty := .int) (v := .int (nI (T.length + (v - u)))) hx hb hts in_J7 tyJ7 tyJ7_ok nmJ7 (hts _ q192) hown hal hO hS (by have hsz := hS.1; (try dsimp only [gfr]) <;> omega) 3 (by decide) (hts _ q358) (fun _ h9 => h9) rfl (by decide +kernel) (rfl) (rfl) (Nat.le_of_ble_eq_true rfl) dJ6_appendChars_203 (fun H_5 locs h_new hch hS => ?_)
  have hB := hB.ch hch (by omega)
  have hO2 := hO2.ch hch (by omega)
  have hB2 := hB2.ch hch (by omega)
  have sz_H_5 := hch.1
  clear hch
  have hO : gO z true RJ7 TJ7 4 H_5 a [.ref b, .int 0, .int ml, .int (nI (T.length + (v - u)))] := h_new
  refine g_vret hx hb hr hlocks hS (Nat.le_of_ble_eq_true rfl) (Nat.le_of_ble_eq_true rfl) ?_ dJ6_appendChars_206
  rw [cpy_sub (by omega)] at hB
  refine ⟨ml, _, by rw [List.length_append, sub_len (by omega)]; exact hO, hB, ovl_app hf, fitB_ovl hF _ (sub_c hT2.2 _ _), by rw [List.length_append, sub_len (by omega)]; exact hcap, hc9, app128 hT (sub_c hT2.2 _ _)⟩
set_option maxHeartbeats 1000000 in
theorem m_appendSub6 (l : Launch) (z : State) (H0 : Heap) (a : Nat) (x : Nat) (u v : Nat) (b cap : Nat) (T : List Nat) (w2 : Bool) (b2 : Nat) (T2 : List Nat) (k : Nat → Nat) (fv : Nat → Value) (huv : u ≤ v) (hv : v ≤ T2.length) (hg : gB z H0 a b cap T) (hn9 : gcap cap (T.length + (v - u)) < 1000000) (hzw : zW z) (hstr2 : gS z w2 H0 x b2 T2) (hxa : x ≠ a) (hne : b2 ≠ b) (hs : sS z k fv (fun q => q = a ∨ q = b ∨ H0.size ≤ q) H0) : Met l yJ6_append_5 (ws_ yJ6_append_5 cJ6_append_5 5 (some (.object "java/lang/AbstractStringBuilder"))) { frames := 4, cells := (gcel cap (T.length + (v - u))), slots := (gcst cap (T.length + (v - u))), locals := 91 } (gPc z H0 [.ref a, .ref x, .int (nI u), .int (nI v)]) (gRr (fun q => q = a ∨ q = b ∨ H0.size ≤ q) H0 (fun r H1 => r = a ∧ ∃ b1, gB z H1 a b1 (gcap cap (T.length + (v - u))) (T ++ (sub T2 u (v - u))) ∧ (b1 = b ∨ H0.size ≤ b1))) (gcel cap (T.length + (v - u))) (gcst cap (T.length + (v - u))) (fun q => q = a ∨ q = b ∨ H0.size ≤ q) := by
  refine g_start (by decide +kernel) (Nat.le_of_ble_eq_true rfl) ?_
  intro p e s m below meth c ls hx hb hr hlocks hml hown hname hts hwm hl
  have hown : s.vm.findClass "java/lang/AbstractStringBuilder" = some m.cls := hown
  have hal : z.vm.Alike s.vm := hwm.alike
  have hCF : CallFix p m c cJ6_append_5 5 s [.ref a, .ref x, .int (nI u), .int (nI v)].toArray lw_all "java/lang/AbstractStringBuilder" := ⟨hx, hb, hml, hown, hts⟩
  have hl : lv_has ls 5 [(0, .ref a), (1, .ref x), (2, .int (nI u)), (3, .int (nI v))] := hl
  have hS : va_S (fun q => q = a ∨ q = b ∨ H0.size ≤ q) H0 H0 [] := va_S.rf
  obtain ⟨ml, f, hO, hB, hf, hF, hc, hc9, hT⟩ := hg
  obtain ⟨h2, hz2, hO2, hB2, hT2⟩ := hstr2
  have hT21 := hT2.1
  have hab : a ≠ b := gA.neO2 hal hB hO (hts _ q192)
  have hxb : x ≠ b := gA.neO2 hal hB hO2 (hts _ q166)
  have h2a : b2 ≠ a := Ne.symm (gA.neO2 hal hB2 hO (hts _ q192))
  have lt_a := hO.lt
  have lt_b := hB.lt
  have lt_x := hO2.lt
  have lt_b2 := hB2.lt
  refine lv_aload_n hx hb dJ6_append_5_0 rfl (lv_at hl 1 rfl) ?_
  refine lv_ifnonnull (tgt := 7) hx hb dJ6_append_5_1 (by decide) ?_
  refine lv_iload_n hx hb dJ6_append_5_7 rfl (lv_at hl 2 rfl) ?_
  refine lv_iload_n hx hb dJ6_append_5_8 rfl (lv_at hl 3 rfl) ?_
  refine lv_aload_n hx hb dJ6_append_5_9 rfl (lv_at hl 1 rfl) ?_
  refine gcF0_iP (w_classAt hts q166).choose_spec hCF hwm hl.1 (m_length l z H0 x w2 b2 T2 k fv ⟨h2, hz2, hO2, hB2, hT2⟩ hs ) (va_cwF (x := ⟨"java/lang/CharSequence", "length", "()I"⟩) 0 hts (lw_app (lw_list4 q945 q622 q219 q64) (lw_meth q221)) rfl rfl rfl (va_Fw.moved ⟨by decide, by decide⟩ hal hzw.2.2.1) ⟨by decide, by decide, by decide +kernel⟩ ⟨Nat.le_of_ble_eq_true rfl, Nat.le_of_ble_eq_true rfl⟩) (hO2.recv hal) ⟨by first | omega | (dsimp only; omega), by first | omega | (dsimp only; omega)⟩ (Nat.le_of_ble_eq_true rfl) dJ6_append_5_10 (fun r_1 hp => ?_)
  subst hp
  refine gw_gets  hx hb hal hs.2.2.1 hS hown (hts _ q946) (fun _ h9 => h9) dJ6_append_5_15 ?_
  refine gcS4_iP hCF hwm hl.1 (m_checkFT l z H0 (fv 1) u v T2.length huv hv (by omega) (hs.2.2.2.2 1) ) (lw_S q737 q310 q75 q311) yd_J14_checkFromToIndex ⟨Nat.le_of_ble_eq_true rfl, Nat.le_of_ble_eq_true rfl⟩ ⟨by first | omega | (dsimp only; omega), by first | omega | (dsimp only; omega)⟩ (Nat.le_of_ble_eq_true rfl) dJ6_append_5_18 (fun r_2 hp => ?_)
  subst hp
  refine lv_pop hx hb dJ6_append_5_21 rfl ?_
  refine lv_iload_n hx hb dJ6_append_5_22 rfl (lv_at hl 3 rfl) ?_
  refine lv_iload_n hx hb dJ6_append_5_23 rfl (lv_at hl 2 rfl) ?_
  refine lv_isub hx hb dJ6_append_5_24 ?_
  refine g_topi (v := nI (v - u)) (ai_sub (a := v) (b := u) (rfl) (rfl) (by omega)) ?_
  refine lv_istore hx hb dJ6_append_5_25 hl (by decide) rfl (fun ls hl => ?_)
  have hl : lv_has ls 5 [(4, .int (nI (v - u))), (0, .ref a), (1, .ref x), (2, .int (nI u)), (3, .int (nI v))] := hl
  refine lv_aload_n hx hb dJ6_append_5_27 rfl (lv_at hl 1 rfl) ?_
  refine lv_aload_n hx hb dJ6_append_5_28 rfl (lv_at hl 1 rfl) ?_
  refine gw_get (C := RJ7) (T := TJ7) (N := 4) (v := .int (nI T.length)) hx hb hts in_J7 hown hal hO 3 (by decide) (hts _ q358) (fun _ h9 => h9) rfl dJ6_append_5_29 ?_
  refine lv_iload hx hb dJ6_append_5_32 (lv_at hl 0 rfl) ?_
  refine lv_iadd hx hb dJ6_append_5_34 ?_
  refine g_topi (v := nI (T.length + (v - u))) (ai_add (a := T.length) (b := (v - u)) (rfl) (rfl)) ?_
  refine gcU1_v (owner := RJ6) (x := yJ6_ensureCapacityInternal) rfl hCF hwm hl.1 (m_ensure l z H0 a (T.length + (v - u)) b cap T ⟨ml, f, hO, hB, hf, hF, hc, hc9, hT⟩ hn9 ) (lw_app (lw_list5 q255 q2425 qe1 q257 q66) (lw_meth q258)) (by decide +kernel) (hO.recv hal) hS (fun q h => by have hsz := hS.1; (try dsimp only [gfr] at h ⊢) <;> omega) ⟨Nat.le_of_ble_eq_true rfl, Nat.le_of_ble_eq_true rfl⟩ ⟨by first | omega | (dsimp only; omega), by first | omega | (dsimp only; omega)⟩ (Nat.le_of_ble_eq_true rfl) dJ6_append_5_35 (fun H_3 locs hp hex hS => ?_)
  have sz_H_3 : H0.size ≤ H_3.size := hex.1
  have hO2 := hO2.ex hex (by intro h; (try dsimp only [gfr] at h) <;> omega)
  have hB2 := hB2.ex hex (by intro h; (try dsimp only [gfr] at h) <;> omega)
  obtain ⟨b1, ⟨ml1, f1, hO1, hB1, hf1, hF1, hc1, hc91, hT1⟩, hb1⟩ := hp
  have hge1 := gcap_ge cap (T.length + (v - u))
  have hab1 : a ≠ b1 := gA.neO2 hal hB1 hO1 (hts _ q192)
  have lt_a := hO1.lt
  have lt_b1 := hB1.lt
  refine lv_aload_n hx hb dJ6_append_5_38 rfl (lv_at hl 2 rfl) ?_
  refine va_instS hx hb hown (hts _ q948) (w_classAt hts q166).choose_spec (hO2.recv hal) dJ6_append_5_39 ?_
  refine lv_if_eq (tgt := 58) hx hb dJ6_append_5_42 (by decide) (fun c_42 => absurd c_42 (by decide)) (fun c_42 => ?_)
  refine lv_aload_n hx hb dJ6_append_5_45 rfl (lv_at hl 1 rfl) ?_
  refine lv_aload_n hx hb dJ6_append_5_46 rfl (lv_at hl 2 rfl) ?_
  refine va_castS hx hb hown (hts _ q948) (w_classAt hts q166).choose_spec (hO2.recv hal) dJ6_append_5_47 ?_
  refine lv_iload_n hx hb dJ6_append_5_50 rfl (lv_at hl 3 rfl) ?_
  refine lv_iload_n hx hb dJ6_append_5_51 rfl (lv_at hl 4 rfl) ?_
  refine gcU3_v (owner := RJ6) (x := yJ6_appendChars) rfl hCF hwm hl.1 (m_appChars l z H_3 a x u v b1 (gcap cap (T.length + (v - u))) T w2 b2 T2 k fv huv hv (by omega) ⟨ml1, f1, hO1, hB1, hf1, hF1, hc1, hc91, hT1⟩ ⟨h2, hz2, hO2, hB2, hT2⟩ hxa (by omega) (hs.call hS (fun q h => by have hsz := hS.1; (try dsimp only [gfr] at h ⊢) <;> omega)) ) (lw_app (lw_list5 q949 q2436 qe6 q951 q66) (lw_meth q952)) (by decide +kernel) (hO1.recv hal) hS (fun q h => by have hsz := hS.1; (try dsimp only [gfr] at h ⊢) <;> omega) ⟨Nat.le_of_ble_eq_true rfl, Nat.le_of_ble_eq_true rfl⟩ ⟨by first | omega | (dsimp only; omega), by first | omega | (dsimp only; omega)⟩ (Nat.le_of_ble_eq_true rfl) dJ6_append_5_52 (fun H_5 locs hp hex hS => ?_)
  have sz_H_5 : H_3.size ≤ H_5.size := hex.1
  have hO2 := hO2.ex hex (by intro h; (try dsimp only [gfr] at h) <;> omega)
  have hB2 := hB2.ex hex (by intro h; (try dsimp only [gfr] at h) <;> omega)
  have hN := hp
  refine lv_goto (tgt := 65) hx hb dJ6_append_5_55 (by decide) ?_
  refine lv_aload_n hx hb dJ6_append_5_65 rfl (lv_at hl 1 rfl) ?_
  refine g_aret hx hb hr hlocks (Or.inl ⟨_, rfl⟩) hS (by first | omega | (dsimp only; omega)) (by first | omega | (dsimp only; omega)) ?_ dJ6_append_5_66
  exact ⟨rfl, b1, hN, hb1⟩
set_option maxHeartbeats 1000000 in
theorem m_appendSub (l : Launch) (z : State) (H0 : Heap) (a : Nat) (x : Nat) (u v : Nat) (b cap : Nat) (T : List Nat) (w2 : Bool) (b2 : Nat) (T2 : List Nat) (k : Nat → Nat) (fv : Nat → Value) (huv : u ≤ v) (hv : v ≤ T2.length) (hg : gB z H0 a b cap T) (hn9 : gcap cap (T.length + (v - u)) < 1000000) (hzw : zW z) (hstr2 : gS z w2 H0 x b2 T2) (hxa : x ≠ a) (hne : b2 ≠ b) (hs : sS z k fv (fun q => q = a ∨ q = b ∨ H0.size ≤ q) H0) : Met l yJ7_append_7 (ws_ yJ7_append_7 cJ7_append_7 4 (some (.object "java/lang/StringBuilder"))) { frames := 5, cells := (gcel cap (T.length + (v - u))), slots := (gcst cap (T.length + (v - u))), locals := 115 } (gPc z H0 [.ref a, .ref x, .int (nI u), .int (nI v)]) (gRr (fun q => q = a ∨ q = b ∨ H0.size ≤ q) H0 (fun r H1 => r = a ∧ ∃ b1, gB z H1 a b1 (gcap cap (T.length + (v - u))) (T ++ (sub T2 u (v - u))) ∧ (b1 = b ∨ H0.size ≤ b1))) (gcel cap (T.length + (v - u))) (gcst cap (T.length + (v - u))) (fun q => q = a ∨ q = b ∨ H0.size ≤ q) := by
  refine g_start (by decide +kernel) (Nat.le_of_ble_eq_true rfl) ?_
  intro p e s m below meth c ls hx hb hr hlocks hml hown hname hts hwm hl
  have hown : s.vm.findClass "java/lang/StringBuilder" = some m.cls := hown
  have hal : z.vm.Alike s.vm := hwm.alike
  have hCF : CallFix p m c cJ7_append_7 4 s [.ref a, .ref x, .int (nI u), .int (nI v)].toArray lw_all "java/lang/StringBuilder" := ⟨hx, hb, hml, hown, hts⟩
  have hl : lv_has ls 4 [(0, .ref a), (1, .ref x), (2, .int (nI u)), (3, .int (nI v))] := hl
  have hS : va_S (fun q => q = a ∨ q = b ∨ H0.size ≤ q) H0 H0 [] := va_S.rf
  obtain ⟨ml, f, hO, hB, hf, hF, hc, hc9, hT⟩ := hg
  obtain ⟨h2, hz2, hO2, hB2, hT2⟩ := hstr2
  have hT21 := hT2.1
  have lt_a := hO.lt
  have lt_b := hB.lt
  have lt_x := hO2.lt
  have lt_b2 := hB2.lt
  refine lv_aload_n hx hb dJ7_append_7_0 rfl (lv_at hl 0 rfl) ?_
  refine lv_aload_n hx hb dJ7_append_7_1 rfl (lv_at hl 1 rfl) ?_
  refine lv_iload_n hx hb dJ7_append_7_2 rfl (lv_at hl 2 rfl) ?_
  refine lv_iload_n hx hb dJ7_append_7_3 rfl (lv_at hl 3 rfl) ?_
  refine gcSU3_r hCF hwm hl.1 (m_appendSub6 l z H0 a x u v b cap T w2 b2 T2 k fv huv hv ⟨ml, f, hO, hB, hf, hF, hc, hc9, hT⟩ hn9 hzw ⟨h2, hz2, hO2, hB2, hT2⟩ hxa hne hs ) (lw_app (lw_list5 q940 q2435 q249 q941 q66) (lw_meth q942)) ydu_J6_append_5 (hO.recv hal) ((w_classAt hts q192).choose_spec) hS (fun q h => by have hsz := hS.1; (try dsimp only [gfr] at h ⊢) <;> omega) ⟨Nat.le_of_ble_eq_true rfl, Nat.le_of_ble_eq_true rfl⟩ ⟨by first | omega | (dsimp only; omega), by first | omega | (dsimp only; omega)⟩ (Nat.le_of_ble_eq_true rfl) dJ7_append_7_4 (fun r_2 H_1 locs hp hex hS => ?_)
  have sz_H_1 : H0.size ≤ H_1.size := hex.1
  obtain ⟨hr0, hN⟩ := hp
  refine lv_pop hx hb dJ7_append_7_7 rfl ?_
  refine lv_aload_n hx hb dJ7_append_7_8 rfl (lv_at hl 0 rfl) ?_
  refine g_aret hx hb hr hlocks (Or.inl ⟨_, rfl⟩) hS (by first | omega | (dsimp only; omega)) (by first | omega | (dsimp only; omega)) ?_ dJ7_append_7_9
  exact ⟨rfl, hN⟩
set_option maxHeartbeats 1000000 in
theorem m_toStrJ (l : Launch) (z : State) (H0 : Heap)  (v : Int) (k : Nat → Nat) (fv : Nat → Value) (h1 : -9223372036854775808 ≤ v) (h2 : v < 9223372036854775808) (hs : sS z k fv (gfr H0) H0) : Met l yJ16_toString_2 (ws_ yJ16_toString_2 cJ16_toString_2 4 (some (.object "java/lang/String"))) { frames := 2, cells := 2, slots := (4 + (sdg v).length), locals := 34 } (gPc z H0 [.long (lI v)]) (gRr (gfr H0) H0 (fun r H1 => H0.size ≤ r ∧ ∃ b1, H0.size ≤ b1 ∧ gS z true H1 r b1 (sdg v))) 2 (4 + (sdg v).length) (gfr H0) := by
  refine g_start (by decide +kernel) (Nat.le_of_ble_eq_true rfl) ?_
  intro p e s m below meth c ls hx hb hr hlocks hml hown hname hts hwm hl
  have hown : s.vm.findClass "java/lang/Long" = some m.cls := hown
  have hal : z.vm.Alike s.vm := hwm.alike
  have hCF : CallFix p m c cJ16_toString_2 4 s [.long (lI v)].toArray lw_all "java/lang/Long" := ⟨hx, hb, hml, hown, hts⟩
  have hl : lv_has ls 4 [(0, .long (lI v))] := hl
  have hS : va_S (gfr H0) H0 H0 [] := va_S.rf
  have hv19 := nd_le19 (v := v) h1 h2
  have hsl := sdg_len v
  refine lv_lload_n hx hb dJ16_toString_2_0 rfl (lv_at hl 0 rfl) ?_
  refine gcS1_iP hCF hwm hl.1 (m_stringSizeJ l z H0  v h1 h2 ) (lw_S q1384 q399 q77 q400) yd_J16_stringSize ⟨Nat.le_of_ble_eq_true rfl, Nat.le_of_ble_eq_true rfl⟩ ⟨by first | omega | (dsimp only; omega), by first | omega | (dsimp only; omega)⟩ (Nat.le_of_ble_eq_true rfl) dJ16_toString_2_1 (fun r_1 hp => ?_)
  subst hp
  rw [← hsl]
  refine lv_istore_n hx hb dJ16_toString_2_4 rfl hl (by decide) rfl (fun ls hl => ?_)
  have hl : lv_has ls 4 [(2, .int (nI ((sdg v).length))), (0, .long (lI v))] := hl
  refine gw_gets  hx hb hal hs.1 hS hown (hts _ q1385) (fun _ h9 => h9) dJ16_toString_2_5 ?_
  refine lv_if_eq (tgt := 32) hx hb dJ16_toString_2_8 (by decide) (fun c_8 => absurd c_8 (by decide)) (fun c_8 => ?_)
  refine lv_iload_n hx hb dJ16_toString_2_11 rfl (lv_at hl 0 rfl) ?_
  refine gw_newa (atype := .byte) (ty := .byte) (N' := ((sdg v).length)) hx hb (hts _ q167) rfl hal hS (rfl) (by omega) (by simp [componentBytes]; omega) (by first | omega | (dsimp only; omega)) (by first | omega | (dsimp only; omega)) dJ16_toString_2_12 (fun qa H_2 eqa zqa hgx h_qa hS => ?_)
  have h_qa : gI z true .byte H_2 qa ((sdg v).length) (fun _ => 0) := h_qa
  refine lv_astore_n hx hb dJ16_toString_2_14 rfl hl (by decide) rfl (fun ls hl => ?_)
  have hl : lv_has ls 4 [(3, .ref qa), (2, .int (nI ((sdg v).length))), (0, .long (lI v))] := hl
  refine lv_lload_n hx hb dJ16_toString_2_15 rfl (lv_at hl 2 rfl) ?_
  refine lv_iload_n hx hb dJ16_toString_2_16 rfl (lv_at hl 1 rfl) ?_
  refine lv_aload_n hx hb dJ16_toString_2_17 rfl (lv_at hl 0 rfl) ?_
  refine gcS3_i hCF hwm hl.1 (m_getCharsJ l z H_2 qa v (sdg v).length (sdg v).length (fun _ => 0) true k h1 h2 (by omega) (Nat.le_refl _) (by omega) h_qa (hs.2.2.2.1.call hS (fun q h => by have hsz := hS.1; (try dsimp only [gfr] at h ⊢) <;> omega)) ) (lw_S q1386 q404 q77 q405) yd_J16_getChars hS (fun q h => by have hsz := hS.1; (try dsimp only [gfr] at h ⊢) <;> omega) ⟨Nat.le_of_ble_eq_true rfl, Nat.le_of_ble_eq_true rfl⟩ ⟨by first | omega | (dsimp only; omega), by first | omega | (dsimp only; omega)⟩ (Nat.le_of_ble_eq_true rfl) dJ16_toString_2_18 (fun rg H_3 locs hp hex hS => ?_)
  have sz_H_3 : H_2.size ≤ H_3.size := hex.1
  obtain ⟨hrg, hB3⟩ := hp
  rw [show (sdg v).length - (nd v.natAbs + mn v) = 0 by omega] at hB3
  have lt_qa := hB3.lt
  refine lv_pop hx hb dJ16_toString_2_21 rfl ?_
  refine gw_new (C := RJ5) (T := TJ5) (N := 4) (fs := [.null, .int 0, .int 0, .int 0]) hx hb hts in_J5 tyJ5 tyJ5_ok hown hal (hts _ q1387) (hts _ q166) (hts _ q64) hS (by decide +kernel) (by first | omega | (dsimp only; omega)) (by first | omega | (dsimp only; omega)) dJ16_toString_2_22 (fun qs H_4 eqs zqs hgx h_qs hS => ?_)
  have hB3 := hB3.x hgx
  refine lv_dup hx hb dJ16_toString_2_25 rfl ?_
  refine lv_aload_n hx hb dJ16_toString_2_26 rfl (lv_at hl 0 rfl) ?_
  refine lv_iconst (v := 0) hx hb dJ16_toString_2_27 (by decide) ?_
  refine gcI2_v hCF hwm hl.1 (m_initS3 l z H_4 qs qa h_qs ) q1388 q709 q64 q710 rfl yd_J5_init_3 hS (fun q h => by have hsz := hS.1; (try dsimp only [gfr] at h ⊢) <;> omega) ⟨Nat.le_of_ble_eq_true rfl, Nat.le_of_ble_eq_true rfl⟩ ⟨by first | omega | (dsimp only; omega), by first | omega | (dsimp only; omega)⟩ (Nat.le_of_ble_eq_true rfl) dJ16_toString_2_28 (fun H_5 locs hp hex hS => ?_)
  have sz_H_5 : H_4.size ≤ H_5.size := hex.1
  have hB3 := hB3.ex hex (by intro h; (try dsimp only [gfr] at h) <;> omega)
  have hO := hp
  refine g_aret hx hb hr hlocks (Or.inl ⟨_, rfl⟩) hS (by first | omega | (dsimp only; omega)) (by first | omega | (dsimp only; omega)) ?_ dJ16_toString_2_31
  have hB4 : gI z true .byte H_5 qa (sdg v).length (bof (sdg v)) := gA.cg hB3 fun i hi => by
    show Value.int (ovl (fun _ => 0) 0 (sdg v) i) = Value.int _
    unfold ovl
    rw [if_pos (by omega)]
    rfl
  exact ⟨by omega, qa, by omega, 0, 0, hO, hB4, by omega, sdg_c v⟩
set_option maxHeartbeats 1000000 in
theorem m_fillB (l : Launch) (z : State) (H0 : Heap) (b : Nat) (ch n : Nat) (f : Nat → Int32) (hch : ch < 128) (hn : n < 268435456) (hB : gI z true .byte H0 b n f) : Met l yJ13_fill_3 (ws_ yJ13_fill_3 cJ13_fill_3 4 (none)) { frames := 0, cells := 0, slots := 0, locals := 0 } (gPc z H0 [.ref b, .int (nI ch)]) (gRv (fun q => q = b) H0 (fun H1 => gI z true .byte H1 b n (fun _ => nI ch))) 0 0 (fun q => q = b) := by
  refine g_start (by decide +kernel) (Nat.le_of_ble_eq_true rfl) ?_
  intro p e s m below meth c ls hx hb hr hlocks hml hown hname hts hwm hl
  have hown : s.vm.findClass "java/util/Arrays" = some m.cls := hown
  have hal : z.vm.Alike s.vm := hwm.alike
  have hCF : CallFix p m c cJ13_fill_3 4 s [.ref b, .int (nI ch)].toArray lw_all "java/util/Arrays" := ⟨hx, hb, hml, hown, hts⟩
  have hl : lv_has ls 4 [(0, .ref b), (1, .int (nI ch))] := hl
  have hS : va_S (fun q => q = b) H0 H0 [] := va_S.rf
  have lt_b := hB.lt
  refine lv_iconst (v := 0) hx hb dJ13_fill_3_0 (by decide) ?_
  refine lv_istore_n hx hb dJ13_fill_3_1 rfl hl (by decide) rfl (fun ls hl => ?_)
  have hl : lv_has ls 4 [(2, .int 0), (0, .ref b), (1, .int (nI ch))] := hl
  refine lv_aload_n hx hb dJ13_fill_3_2 rfl (lv_at hl 1 rfl) ?_
  refine gw_len hx hb hal hB dJ13_fill_3_3 ?_
  refine lv_istore_n hx hb dJ13_fill_3_4 rfl hl (by decide) rfl (fun ls hl => ?_)
  have hl : lv_has ls 4 [(3, .int (nI n)), (2, .int 0), (0, .ref b), (1, .int (nI ch))] := hl
  have e_fit : f = (fun j => if j < 0 then nI ch else f j) := by
    funext j
    rfl
  replace hB : gI z true .byte H0 b n (fun j => if j < 0 then nI ch else f j) := by
    rw [← e_fit]
    exact hB
  clear e_fit
  have loop : ∀ (n_ : Nat) (i : Nat), (i ≤ n) → (n - i) < n_ → ∀ (H_1 : Heap) (locs : List Loc), va_S (fun q => q = b) H0 H_1 locs → gI z true .byte H_1 b n (fun j => if j < i then nI ch else f j) → ∀ (ls : Array Slot), lv_has ls 4 [(3, .int (nI n)), (2, .int (nI i)), (0, .ref b), (1, .int (nI ch))] → W p l e { frames := 0, cells := 0, slots := 0, locals := 0 } s m [.ref b, .int (nI ch)].toArray below meth c H_1 locs 0 0 (MQ below (gRv (fun q => q = b) H0 (fun H1 => gI z true .byte H1 b n (fun _ => nI ch))) [.ref b, .int (nI ch)].toArray s 0 0 (fun q => q = b)) (F0 m 5 ls []) := by
    intro n_
    induction n_ with
    | zero => intro i hi hm_; exact absurd hm_ (Nat.not_lt_zero _)
    | succ n_ ih_loop =>
      intro i hi hm_ H_1 locs hS hB ls hl
      refine lv_iload_n hx hb dJ13_fill_3_5 rfl (lv_at hl 1 rfl) ?_
      refine lv_iload_n hx hb dJ13_fill_3_6 rfl (lv_at hl 0 rfl) ?_
      refine lv_icmp_ge (tgt := 20) hx hb dJ13_fill_3_7 (by decide) (fun c_7 => ?_) (fun c_7 => ?_)
      · skip
        have c_7 := (ai_le (a := n) (b := i) (rfl) (rfl) (by omega) (by omega)).mp c_7
        refine g_vret hx hb hr hlocks hS (Nat.le_of_ble_eq_true rfl) (Nat.le_of_ble_eq_true rfl) ?_ dJ13_fill_3_20
        exact gA.cg hB fun j hj => by
          show Value.int (if j < i then nI ch else f j) = _
          rw [if_pos (by omega)]
      · skip
        have c_7 := mt (ai_le (a := n) (b := i) (rfl) (rfl) (by omega) (by omega)).mpr c_7
        refine lv_aload_n hx hb dJ13_fill_3_10 rfl (lv_at hl 2 rfl) ?_
        refine lv_iload_n hx hb dJ13_fill_3_11 rfl (lv_at hl 1 rfl) ?_
        refine lv_iload_n hx hb dJ13_fill_3_12 rfl (lv_at hl 3 rfl) ?_
        refine gw_bast (f := (fun j => if j < i then nI ch else f j)) hx hb hal hB hS (by have hsz := hS.1; (try dsimp only [gfr]) <;> omega) i (rfl) (by omega) (by omega) dJ13_fill_3_13 (fun H_2 locs h_new hch hS => ?_)
        have sz_H_2 := hch.1
        clear hch
        have hB : gI z true .byte H_2 b n (upd (fun j => if j < i then nI ch else f j) i (((nI ch)).toInt8.toInt32)) := h_new
        refine lv_iinc (k := 1) (v := (nI (i + 1))) hx hb dJ13_fill_3_14 hl rfl (ai_add (rfl) (show Int32.ofInt 1 = nI 1 by decide)) (by decide) rfl (fun ls hl => ?_)
        have hl : lv_has ls 4 [(2, .int (nI (i + 1))), (3, .int (nI n)), (0, .ref b), (1, .int (nI ch))] := hl
        refine lv_goto (tgt := 5) hx hb dJ13_fill_3_17 (by decide) ?_
        have e_fit : (upd (fun j => if j < i then nI ch else f j) i (((nI ch)).toInt8.toInt32)) = (fun j => if j < i + 1 then nI ch else f j) := by
          rw [b8 ch hch]
          funext j
          unfold upd
          by_cases q : j = i
          · rw [if_pos q, if_pos (by omega)]
          · rw [if_neg q]
            show (if j < i then nI ch else f j) = (if j < i + 1 then nI ch else f j)
            by_cases q2 : j < i
            · rw [if_pos q2, if_pos (by omega)]
            · rw [if_neg q2, if_neg (by omega)]
        replace hB : gI z true .byte H_2 b n (fun j => if j < i + 1 then nI ch else f j) := by
          rw [← e_fit]
          exact hB
        clear e_fit
        exact ih_loop (i + 1) (by omega) (by omega) H_2 _ hS hB ls (lv_sub hl [1, 0, 2, 3] rfl)
  exact loop _ 0 (Nat.zero_le _) (Nat.lt_succ_self _) H0 _ hS hB ls (lv_sub hl [0, 1, 2, 3] rfl)
set_option maxHeartbeats 1000000 in
theorem m_repeat (l : Launch) (z : State) (H0 : Heap) (a : Nat) (n ch : Nat) (w : Bool) (b : Nat) (k : Nat → Nat) (fv : Nat → Value) (hn1 : 1 ≤ n) (hn9 : n < 1000000) (hstr : gS z w H0 a b [ch]) (hs : sS z k fv (gfr H0) H0) : Met l yJ5_repeat (ws_ yJ5_repeat cJ5_repeat 5 (some (.object "java/lang/String"))) { frames := 2, cells := 2, slots := (4 + n), locals := 34 } (gPc z H0 [.ref a, .int (nI n)]) (gRr (gfr H0) H0 (fun r H1 => ∃ w1 b1, gS z w1 H1 r b1 (List.replicate n ch) ∧ ((r = a ∧ b1 = b) ∨ (H0.size ≤ r ∧ H0.size ≤ b1)))) 2 (4 + n) (gfr H0) := by
  refine g_start (by decide +kernel) (Nat.le_of_ble_eq_true rfl) ?_
  intro p e s m below meth c ls hx hb hr hlocks hml hown hname hts hwm hl
  have hown : s.vm.findClass "java/lang/String" = some m.cls := hown
  have hal : z.vm.Alike s.vm := hwm.alike
  have hCF : CallFix p m c cJ5_repeat 5 s [.ref a, .int (nI n)].toArray lw_all "java/lang/String" := ⟨hx, hb, hml, hown, hts⟩
  have hl : lv_has ls 5 [(0, .ref a), (1, .int (nI n))] := hl
  have hS : va_S (gfr H0) H0 H0 [] := va_S.rf
  obtain ⟨h, hzz, hO, hB, hT⟩ := hstr
  have hB : gI z w .byte H0 b 1 (bof [ch]) := hB
  have hch : ch < 128 := hT.2 ch List.mem_cons_self
  obtain ⟨dq, hdq, hdq1, hdq2⟩ : ∃ dq, 2147483647 / n = dq ∧ 1 ≤ dq ∧ dq ≤ 2147483647 := ⟨_, rfl, Nat.div_pos (by omega) (by omega), Nat.div_le_self _ _⟩
  have lt_a := hO.lt
  have lt_b := hB.lt
  refine lv_iload_n hx hb dJ5_repeat_0 rfl (lv_at hl 1 rfl) ?_
  refine lv_if_ge (tgt := 32) hx hb dJ5_repeat_1 (by decide) (fun c_1 => ?_) (fun c_1 => False.elim (by
    have c_1 := mt (ai_le (a := 0) (b := n) (rfl) (rfl) (by omega) (by omega)).mpr c_1
    omega))
  have c_1 := (ai_le (a := 0) (b := n) (rfl) (rfl) (by omega) (by omega)).mp c_1
  refine lv_iload_n hx hb dJ5_repeat_32 rfl (lv_at hl 1 rfl) ?_
  refine lv_iconst (v := 1) hx hb dJ5_repeat_33 (by decide) ?_
  refine lv_icmp_ne (tgt := 39) hx hb dJ5_repeat_34 (by decide) (fun c_34 => ?_) (fun c_34 => ?_)
  · skip
    have c_34 := mt (ai_eq (a := n) (b := 1) (rfl) (rfl) (by omega) (by omega)).mpr c_34
    refine lv_aload_n hx hb dJ5_repeat_39 rfl (lv_at hl 0 rfl) ?_
    refine gw_get (C := RJ5) (T := TJ5) (N := 4) (v := .ref b) hx hb hts in_J5 hown hal hO 0 (by decide) (hts _ q523) (fun _ h9 => h9) rfl dJ5_repeat_40 ?_
    refine gw_len hx hb hal hB dJ5_repeat_43 ?_
    refine lv_istore_n hx hb dJ5_repeat_44 rfl hl (by decide) rfl (fun ls hl => ?_)
    have hl : lv_has ls 5 [(2, .int (nI 1)), (0, .ref a), (1, .int (nI n))] := hl
    refine lv_iload_n hx hb dJ5_repeat_45 rfl (lv_at hl 0 rfl) ?_
    refine lv_if_eq (tgt := 53) hx hb dJ5_repeat_46 (by decide) (fun c_46 => absurd c_46 (by decide)) (fun c_46 => ?_)
    refine lv_iload_n hx hb dJ5_repeat_49 rfl (lv_at hl 2 rfl) ?_
    refine lv_if_ne (tgt := 56) hx hb dJ5_repeat_50 (by decide) (fun c_50 => ?_) (fun c_50 => False.elim (by
      have c_50 := (ai_eq (a := n) (b := 0) (rfl) (rfl) (by omega) (by omega)).mp c_50
      omega))
    have c_50 := mt (ai_eq (a := n) (b := 0) (rfl) (rfl) (by omega) (by omega)).mpr c_50
    refine lv_ldcw (v := 2147483647) hx hb hown (hts _ q1544) dJ5_repeat_56 ?_
    refine lv_iload_n hx hb dJ5_repeat_59 rfl (lv_at hl 2 rfl) ?_
    refine lv_idiv hx hb dJ5_repeat_60 (nI_ne0 (by omega) (by omega)) ?_
    refine g_topi (v := (nI dq)) ?_ ?_
    · skip
      rw [show (2147483647 : Int32) = nI 2147483647 from rfl, pk_div (by decide) (by omega) (by omega), hdq]
    refine lv_iload_n hx hb dJ5_repeat_61 rfl (lv_at hl 0 rfl) ?_
    refine lv_icmp_ge (tgt := 76) hx hb dJ5_repeat_62 (by decide) (fun c_62 => ?_) (fun c_62 => False.elim (by
      have c_62 := mt (ai_le (a := 1) (b := dq) (rfl) (rfl) (by omega) (by omega)).mpr c_62
      omega))
    have c_62 := (ai_le (a := 1) (b := dq) (rfl) (rfl) (by omega) (by omega)).mp c_62
    refine lv_iload_n hx hb dJ5_repeat_76 rfl (lv_at hl 0 rfl) ?_
    refine lv_iconst (v := 1) hx hb dJ5_repeat_77 (by decide) ?_
    refine lv_icmp_ne (tgt := 108) hx hb dJ5_repeat_78 (by decide) (fun c_78 => absurd (rfl) c_78) (fun c_78 => ?_)
    refine lv_iload_n hx hb dJ5_repeat_81 rfl (lv_at hl 2 rfl) ?_
    refine gw_newa (atype := .byte) (ty := .byte) (N' := n) hx hb (hts _ q167) rfl hal hS (rfl) (by omega) (by simp [componentBytes]; omega) (by first | omega | (dsimp only; omega)) (by first | omega | (dsimp only; omega)) dJ5_repeat_82 (fun q_1 H_2 eq_1 zq_1 hgx h_q_1 hS => ?_)
    have hO := hO.x hgx
    have hB := hB.x hgx
    have h_q_1 : gI z true .byte H_2 q_1 n (fun _ => 0) := h_q_1
    refine lv_astore_n hx hb dJ5_repeat_84 rfl hl (by decide) rfl (fun ls hl => ?_)
    have hl : lv_has ls 5 [(3, .ref q_1), (2, .int (nI 1)), (0, .ref a), (1, .int (nI n))] := hl
    refine lv_aload_n hx hb dJ5_repeat_85 rfl (lv_at hl 0 rfl) ?_
    refine lv_aload_n hx hb dJ5_repeat_86 rfl (lv_at hl 2 rfl) ?_
    refine gw_get (C := RJ5) (T := TJ5) (N := 4) (v := .ref b) hx hb hts in_J5 hown hal hO 0 (by decide) (hts _ q523) (fun _ h9 => h9) rfl dJ5_repeat_87 ?_
    refine lv_iconst (v := 0) hx hb dJ5_repeat_90 (by decide) ?_
    refine gw_bald hx hb hal hB 0 (rfl) (by omega) (by omega) dJ5_repeat_91 ?_
    refine g_topi (v := (nI ([ch].getD 0 0))) rfl ?_
    refine g_topi (v := (nI ch)) (rfl) ?_
    refine gcS2_v hCF hwm hl.1 (m_fillB l z H_2 q_1 ch n (fun _ => 0) hch (by omega) h_q_1 ) (lw_S q1545 q1546 q73 q1547) yd_J13_fill_3 hS (fun q h => by have hsz := hS.1; (try dsimp only [gfr] at h ⊢) <;> omega) ⟨Nat.le_of_ble_eq_true rfl, Nat.le_of_ble_eq_true rfl⟩ ⟨by first | omega | (dsimp only; omega), by first | omega | (dsimp only; omega)⟩ (Nat.le_of_ble_eq_true rfl) dJ5_repeat_92 (fun H_3 locs hp hex hS => ?_)
    have sz_H_3 : H_2.size ≤ H_3.size := hex.1
    have hO := hO.ex hex (by intro h; (try dsimp only [gfr] at h) <;> omega)
    have hB := hB.ex hex (by intro h; (try dsimp only [gfr] at h) <;> omega)
    have hB3 := hp
    have lt_q_1 := hB3.lt
    refine gw_new (C := RJ5) (T := TJ5) (N := 4) (fs := [.null, .int 0, .int 0, .int 0]) hx hb hts in_J5 tyJ5 tyJ5_ok hown hal (hts _ q1548) (hts _ q166) (hts _ q64) hS (by decide +kernel) (by first | omega | (dsimp only; omega)) (by first | omega | (dsimp only; omega)) dJ5_repeat_95 (fun q_5 H_6 eq_5 zq_5 hgx h_q_5 hS => ?_)
    have hO := hO.x hgx
    have hB := hB.x hgx
    have hB3 := hB3.x hgx
    refine lv_dup hx hb dJ5_repeat_98 rfl ?_
    refine lv_aload_n hx hb dJ5_repeat_99 rfl (lv_at hl 0 rfl) ?_
    refine lv_aload_n hx hb dJ5_repeat_100 rfl (lv_at hl 2 rfl) ?_
    refine gw_get (C := RJ5) (T := TJ5) (N := 4) (v := .int 0) hx hb hts in_J5 hown hal hO 1 (by decide) (hts _ q524) (fun _ h9 => h9) rfl dJ5_repeat_101 ?_
    refine gcI2_v hCF hwm hl.1 (m_initS3 l z H_6 q_5 q_1 h_q_5 ) q1549 q709 q64 q710 rfl yd_J5_init_3 hS (fun q h => by have hsz := hS.1; (try dsimp only [gfr] at h ⊢) <;> omega) ⟨Nat.le_of_ble_eq_true rfl, Nat.le_of_ble_eq_true rfl⟩ ⟨by first | omega | (dsimp only; omega), by first | omega | (dsimp only; omega)⟩ (Nat.le_of_ble_eq_true rfl) dJ5_repeat_104 (fun H_7 locs hp hex hS => ?_)
    have sz_H_7 : H_6.size ≤ H_7.size := hex.1
    have hO := hO.ex hex (by intro h; (try dsimp only [gfr] at h) <;> omega)
    have hB := hB.ex hex (by intro h; (try dsimp only [gfr] at h) <;> omega)
    have hB3 := hB3.ex hex (by intro h; (try dsimp only [gfr] at h) <;> omega)
    have hO5 := hp
    refine g_aret hx hb hr hlocks (Or.inl ⟨_, rfl⟩) hS (by first | omega | (dsimp only; omega)) (by first | omega | (dsimp only; omega)) ?_ dJ5_repeat_107
    refine ⟨true, q_1, ⟨0, 0, hO5, ?_, ?_, ?_⟩, Or.inr ⟨by omega, by omega⟩⟩
    · rw [List.length_replicate]
      exact gA.cg hB3 fun i hi => by
        show Value.int _ = Value.int (nI ((List.replicate n ch).getD i 0))
        rw [rep_at n ch i hi]
    · rw [List.length_replicate]; omega
    · intro c hc
      rw [(List.mem_replicate.mp hc).2]
      exact hch
  · skip
    have c_34 := (ai_eq (a := n) (b := 1) (rfl) (rfl) (by omega) (by omega)).mp c_34
    refine lv_aload_n hx hb dJ5_repeat_37 rfl (lv_at hl 0 rfl) ?_
    refine g_aret hx hb hr hlocks (Or.inl ⟨_, rfl⟩) hS (by first | omega | (dsimp only; omega)) (by first | omega | (dsimp only; omega)) ?_ dJ5_repeat_38
    have e1 : n = 1 := by omega
    subst e1
    exact ⟨w, b, ⟨h, hzz, hO, hB, hT⟩, Or.inl ⟨rfl, rfl⟩⟩
