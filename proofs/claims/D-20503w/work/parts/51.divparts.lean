/-! ## walks (written by tools) -/
set_option maxRecDepth 100000
def dkwJ24_mulsubBorrow_4 : List UInt8 := [132, 10, 255, 167, 255, 184, 22, 8, 136, 172]
abbrev dktJ24_mulsubBorrow_4 : List UInt8 := dkwJ24_mulsubBorrow_4 ++ []
def dkwJ24_mulsubBorrow_3 : List UInt8 := [22, 11, 136, 2, 130, 133, 20, 0, 52, 127, 148, 158, 0, 7, 4, 167, 0, 4, 3, 133, 97, 55, 8]
abbrev dktJ24_mulsubBorrow_3 : List UInt8 := dkwJ24_mulsubBorrow_3 ++ dktJ24_mulsubBorrow_4
def dkwJ24_mulsubBorrow_2 : List UInt8 := [21, 5, 132, 5, 255, 46, 133, 22, 11, 101, 55, 13, 22, 11, 16, 32, 125, 22, 13, 20, 0, 52, 127]
abbrev dktJ24_mulsubBorrow_2 : List UInt8 := dkwJ24_mulsubBorrow_2 ++ dktJ24_mulsubBorrow_3
def dkwJ24_mulsubBorrow_1 : List UInt8 := [21, 10, 155, 0, 73, 44, 21, 10, 46, 133, 20, 0, 52, 127, 22, 6, 105, 22, 8, 97, 55, 11, 43]
abbrev dktJ24_mulsubBorrow_1 : List UInt8 := dkwJ24_mulsubBorrow_1 ++ dktJ24_mulsubBorrow_2
def dkwJ24_mulsubBorrow_0 : List UInt8 := [29, 133, 20, 0, 52, 127, 55, 6, 9, 55, 8, 21, 5, 21, 4, 96, 54, 5, 21, 4, 4, 100, 54, 10]
abbrev dktJ24_mulsubBorrow_0 : List UInt8 := dkwJ24_mulsubBorrow_0 ++ dktJ24_mulsubBorrow_1
theorem dksJ24_mulsubBorrow_0 : cJ24_mulsubBorrow.data.toList.drop 0 = dktJ24_mulsubBorrow_0 := by decide +kernel
theorem dksJ24_mulsubBorrow_1 : cJ24_mulsubBorrow.data.toList.drop 24 = dktJ24_mulsubBorrow_1 := dk_seg dksJ24_mulsubBorrow_0 24 rfl rfl
theorem dksJ24_mulsubBorrow_2 : cJ24_mulsubBorrow.data.toList.drop 47 = dktJ24_mulsubBorrow_2 := dk_seg dksJ24_mulsubBorrow_1 23 rfl rfl
theorem dksJ24_mulsubBorrow_3 : cJ24_mulsubBorrow.data.toList.drop 70 = dktJ24_mulsubBorrow_3 := dk_seg dksJ24_mulsubBorrow_2 23 rfl rfl
theorem dksJ24_mulsubBorrow_4 : cJ24_mulsubBorrow.data.toList.drop 93 = dktJ24_mulsubBorrow_4 := dk_seg dksJ24_mulsubBorrow_3 23 rfl rfl
theorem dJ24_mulsubBorrow_0 : decode cJ24_mulsubBorrow 0 = .ok (.iload_n 3, 1) := dk_29 (dk_at dksJ24_mulsubBorrow_0 0 rfl rfl)
theorem dJ24_mulsubBorrow_1 : decode cJ24_mulsubBorrow 1 = .ok (.i2l, 1) := dk_133 (dk_at dksJ24_mulsubBorrow_0 1 rfl rfl)
theorem dJ24_mulsubBorrow_2 : decode cJ24_mulsubBorrow 2 = .ok (.ldc2_w 52, 3) := dk_20 0 52 (dk_at dksJ24_mulsubBorrow_0 2 rfl rfl)
theorem dJ24_mulsubBorrow_5 : decode cJ24_mulsubBorrow 5 = .ok (.land, 1) := dk_127 (dk_at dksJ24_mulsubBorrow_0 5 rfl rfl)
theorem dJ24_mulsubBorrow_6 : decode cJ24_mulsubBorrow 6 = .ok (.lstore 6, 2) := dk_55 6 (dk_at dksJ24_mulsubBorrow_0 6 rfl rfl)
theorem dJ24_mulsubBorrow_8 : decode cJ24_mulsubBorrow 8 = .ok (.lconst 0, 1) := dk_9 (dk_at dksJ24_mulsubBorrow_0 8 rfl rfl)
theorem dJ24_mulsubBorrow_9 : decode cJ24_mulsubBorrow 9 = .ok (.lstore 8, 2) := dk_55 8 (dk_at dksJ24_mulsubBorrow_0 9 rfl rfl)
theorem dJ24_mulsubBorrow_11 : decode cJ24_mulsubBorrow 11 = .ok (.iload 5, 2) := dk_21 5 (dk_at dksJ24_mulsubBorrow_0 11 rfl rfl)
theorem dJ24_mulsubBorrow_13 : decode cJ24_mulsubBorrow 13 = .ok (.iload 4, 2) := dk_21 4 (dk_at dksJ24_mulsubBorrow_0 13 rfl rfl)
theorem dJ24_mulsubBorrow_15 : decode cJ24_mulsubBorrow 15 = .ok (.iadd, 1) := dk_96 (dk_at dksJ24_mulsubBorrow_0 15 rfl rfl)
theorem dJ24_mulsubBorrow_16 : decode cJ24_mulsubBorrow 16 = .ok (.istore 5, 2) := dk_54 5 (dk_at dksJ24_mulsubBorrow_0 16 rfl rfl)
theorem dJ24_mulsubBorrow_18 : decode cJ24_mulsubBorrow 18 = .ok (.iload 4, 2) := dk_21 4 (dk_at dksJ24_mulsubBorrow_0 18 rfl rfl)
theorem dJ24_mulsubBorrow_20 : decode cJ24_mulsubBorrow 20 = .ok (.iconst 1, 1) := dk_4 (dk_at dksJ24_mulsubBorrow_0 20 rfl rfl)
theorem dJ24_mulsubBorrow_21 : decode cJ24_mulsubBorrow 21 = .ok (.isub, 1) := dk_100 (dk_at dksJ24_mulsubBorrow_0 21 rfl rfl)
theorem dJ24_mulsubBorrow_22 : decode cJ24_mulsubBorrow 22 = .ok (.istore 10, 2) := dk_54 10 (dk_at dksJ24_mulsubBorrow_0 22 rfl rfl)
theorem dJ24_mulsubBorrow_24 : decode cJ24_mulsubBorrow 24 = .ok (.iload 10, 2) := dk_21 10 (dk_at dksJ24_mulsubBorrow_1 0 rfl rfl)
theorem dJ24_mulsubBorrow_26 : decode cJ24_mulsubBorrow 26 = .ok (.ifCond .lt 73, 3) := dk_155 0 73 (dk_at dksJ24_mulsubBorrow_1 2 rfl rfl)
theorem dJ24_mulsubBorrow_29 : decode cJ24_mulsubBorrow 29 = .ok (.aload_n 2, 1) := dk_44 (dk_at dksJ24_mulsubBorrow_1 5 rfl rfl)
theorem dJ24_mulsubBorrow_30 : decode cJ24_mulsubBorrow 30 = .ok (.iload 10, 2) := dk_21 10 (dk_at dksJ24_mulsubBorrow_1 6 rfl rfl)
theorem dJ24_mulsubBorrow_32 : decode cJ24_mulsubBorrow 32 = .ok (.iaload, 1) := dk_46 (dk_at dksJ24_mulsubBorrow_1 8 rfl rfl)
theorem dJ24_mulsubBorrow_33 : decode cJ24_mulsubBorrow 33 = .ok (.i2l, 1) := dk_133 (dk_at dksJ24_mulsubBorrow_1 9 rfl rfl)
theorem dJ24_mulsubBorrow_34 : decode cJ24_mulsubBorrow 34 = .ok (.ldc2_w 52, 3) := dk_20 0 52 (dk_at dksJ24_mulsubBorrow_1 10 rfl rfl)
theorem dJ24_mulsubBorrow_37 : decode cJ24_mulsubBorrow 37 = .ok (.land, 1) := dk_127 (dk_at dksJ24_mulsubBorrow_1 13 rfl rfl)
theorem dJ24_mulsubBorrow_38 : decode cJ24_mulsubBorrow 38 = .ok (.lload 6, 2) := dk_22 6 (dk_at dksJ24_mulsubBorrow_1 14 rfl rfl)
theorem dJ24_mulsubBorrow_40 : decode cJ24_mulsubBorrow 40 = .ok (.lmul, 1) := dk_105 (dk_at dksJ24_mulsubBorrow_1 16 rfl rfl)
theorem dJ24_mulsubBorrow_41 : decode cJ24_mulsubBorrow 41 = .ok (.lload 8, 2) := dk_22 8 (dk_at dksJ24_mulsubBorrow_1 17 rfl rfl)
theorem dJ24_mulsubBorrow_43 : decode cJ24_mulsubBorrow 43 = .ok (.ladd, 1) := dk_97 (dk_at dksJ24_mulsubBorrow_1 19 rfl rfl)
theorem dJ24_mulsubBorrow_44 : decode cJ24_mulsubBorrow 44 = .ok (.lstore 11, 2) := dk_55 11 (dk_at dksJ24_mulsubBorrow_1 20 rfl rfl)
theorem dJ24_mulsubBorrow_46 : decode cJ24_mulsubBorrow 46 = .ok (.aload_n 1, 1) := dk_43 (dk_at dksJ24_mulsubBorrow_1 22 rfl rfl)
theorem dJ24_mulsubBorrow_47 : decode cJ24_mulsubBorrow 47 = .ok (.iload 5, 2) := dk_21 5 (dk_at dksJ24_mulsubBorrow_2 0 rfl rfl)
theorem dJ24_mulsubBorrow_49 : decode cJ24_mulsubBorrow 49 = .ok (.iinc 5 (-1), 3) := dk_132 5 255 (dk_at dksJ24_mulsubBorrow_2 2 rfl rfl)
theorem dJ24_mulsubBorrow_52 : decode cJ24_mulsubBorrow 52 = .ok (.iaload, 1) := dk_46 (dk_at dksJ24_mulsubBorrow_2 5 rfl rfl)
theorem dJ24_mulsubBorrow_53 : decode cJ24_mulsubBorrow 53 = .ok (.i2l, 1) := dk_133 (dk_at dksJ24_mulsubBorrow_2 6 rfl rfl)
theorem dJ24_mulsubBorrow_54 : decode cJ24_mulsubBorrow 54 = .ok (.lload 11, 2) := dk_22 11 (dk_at dksJ24_mulsubBorrow_2 7 rfl rfl)
theorem dJ24_mulsubBorrow_56 : decode cJ24_mulsubBorrow 56 = .ok (.lsub, 1) := dk_101 (dk_at dksJ24_mulsubBorrow_2 9 rfl rfl)
theorem dJ24_mulsubBorrow_57 : decode cJ24_mulsubBorrow 57 = .ok (.lstore 13, 2) := dk_55 13 (dk_at dksJ24_mulsubBorrow_2 10 rfl rfl)
theorem dJ24_mulsubBorrow_59 : decode cJ24_mulsubBorrow 59 = .ok (.lload 11, 2) := dk_22 11 (dk_at dksJ24_mulsubBorrow_2 12 rfl rfl)
theorem dJ24_mulsubBorrow_61 : decode cJ24_mulsubBorrow 61 = .ok (.bipush 32, 2) := dk_16 32 (dk_at dksJ24_mulsubBorrow_2 14 rfl rfl)
theorem dJ24_mulsubBorrow_63 : decode cJ24_mulsubBorrow 63 = .ok (.lushr, 1) := dk_125 (dk_at dksJ24_mulsubBorrow_2 16 rfl rfl)
theorem dJ24_mulsubBorrow_64 : decode cJ24_mulsubBorrow 64 = .ok (.lload 13, 2) := dk_22 13 (dk_at dksJ24_mulsubBorrow_2 17 rfl rfl)
theorem dJ24_mulsubBorrow_66 : decode cJ24_mulsubBorrow 66 = .ok (.ldc2_w 52, 3) := dk_20 0 52 (dk_at dksJ24_mulsubBorrow_2 19 rfl rfl)
theorem dJ24_mulsubBorrow_69 : decode cJ24_mulsubBorrow 69 = .ok (.land, 1) := dk_127 (dk_at dksJ24_mulsubBorrow_2 22 rfl rfl)
theorem dJ24_mulsubBorrow_70 : decode cJ24_mulsubBorrow 70 = .ok (.lload 11, 2) := dk_22 11 (dk_at dksJ24_mulsubBorrow_3 0 rfl rfl)
theorem dJ24_mulsubBorrow_72 : decode cJ24_mulsubBorrow 72 = .ok (.l2i, 1) := dk_136 (dk_at dksJ24_mulsubBorrow_3 2 rfl rfl)
theorem dJ24_mulsubBorrow_73 : decode cJ24_mulsubBorrow 73 = .ok (.iconst (-1), 1) := dk_2 (dk_at dksJ24_mulsubBorrow_3 3 rfl rfl)
theorem dJ24_mulsubBorrow_74 : decode cJ24_mulsubBorrow 74 = .ok (.ixor, 1) := dk_130 (dk_at dksJ24_mulsubBorrow_3 4 rfl rfl)
theorem dJ24_mulsubBorrow_75 : decode cJ24_mulsubBorrow 75 = .ok (.i2l, 1) := dk_133 (dk_at dksJ24_mulsubBorrow_3 5 rfl rfl)
theorem dJ24_mulsubBorrow_76 : decode cJ24_mulsubBorrow 76 = .ok (.ldc2_w 52, 3) := dk_20 0 52 (dk_at dksJ24_mulsubBorrow_3 6 rfl rfl)
theorem dJ24_mulsubBorrow_79 : decode cJ24_mulsubBorrow 79 = .ok (.land, 1) := dk_127 (dk_at dksJ24_mulsubBorrow_3 9 rfl rfl)
theorem dJ24_mulsubBorrow_80 : decode cJ24_mulsubBorrow 80 = .ok (.lcmp, 1) := dk_148 (dk_at dksJ24_mulsubBorrow_3 10 rfl rfl)
theorem dJ24_mulsubBorrow_81 : decode cJ24_mulsubBorrow 81 = .ok (.ifCond .le 7, 3) := dk_158 0 7 (dk_at dksJ24_mulsubBorrow_3 11 rfl rfl)
theorem dJ24_mulsubBorrow_84 : decode cJ24_mulsubBorrow 84 = .ok (.iconst 1, 1) := dk_4 (dk_at dksJ24_mulsubBorrow_3 14 rfl rfl)
theorem dJ24_mulsubBorrow_85 : decode cJ24_mulsubBorrow 85 = .ok (.goto 4, 3) := dk_167 0 4 (dk_at dksJ24_mulsubBorrow_3 15 rfl rfl)
theorem dJ24_mulsubBorrow_88 : decode cJ24_mulsubBorrow 88 = .ok (.iconst 0, 1) := dk_3 (dk_at dksJ24_mulsubBorrow_3 18 rfl rfl)
theorem dJ24_mulsubBorrow_89 : decode cJ24_mulsubBorrow 89 = .ok (.i2l, 1) := dk_133 (dk_at dksJ24_mulsubBorrow_3 19 rfl rfl)
theorem dJ24_mulsubBorrow_90 : decode cJ24_mulsubBorrow 90 = .ok (.ladd, 1) := dk_97 (dk_at dksJ24_mulsubBorrow_3 20 rfl rfl)
theorem dJ24_mulsubBorrow_91 : decode cJ24_mulsubBorrow 91 = .ok (.lstore 8, 2) := dk_55 8 (dk_at dksJ24_mulsubBorrow_3 21 rfl rfl)
theorem dJ24_mulsubBorrow_93 : decode cJ24_mulsubBorrow 93 = .ok (.iinc 10 (-1), 3) := dk_132 10 255 (dk_at dksJ24_mulsubBorrow_4 0 rfl rfl)
theorem dJ24_mulsubBorrow_96 : decode cJ24_mulsubBorrow 96 = .ok (.goto (-72), 3) := dk_167 255 184 (dk_at dksJ24_mulsubBorrow_4 3 rfl rfl)
theorem dJ24_mulsubBorrow_99 : decode cJ24_mulsubBorrow 99 = .ok (.lload 8, 2) := dk_22 8 (dk_at dksJ24_mulsubBorrow_4 6 rfl rfl)
theorem dJ24_mulsubBorrow_101 : decode cJ24_mulsubBorrow 101 = .ok (.l2i, 1) := dk_136 (dk_at dksJ24_mulsubBorrow_4 8 rfl rfl)
theorem dJ24_mulsubBorrow_102 : decode cJ24_mulsubBorrow 102 = .ok (.ireturn, 1) := dk_172 (dk_at dksJ24_mulsubBorrow_4 9 rfl rfl)
def dkwJ24_divadd_2 : List UInt8 := [79, 22, 7, 16, 32, 125, 55, 4, 132, 6, 255, 167, 255, 206, 22, 4, 136, 172]
abbrev dktJ24_divadd_2 : List UInt8 := dkwJ24_divadd_2 ++ []
def dkwJ24_divadd_1 : List UInt8 := [21, 6, 29, 96, 46, 133, 20, 0, 52, 127, 97, 22, 4, 97, 55, 7, 44, 21, 6, 29, 96, 22, 7, 136]
abbrev dktJ24_divadd_1 : List UInt8 := dkwJ24_divadd_1 ++ dktJ24_divadd_2
def dkwJ24_divadd_0 : List UInt8 := [9, 55, 4, 43, 190, 4, 100, 54, 6, 21, 6, 155, 0, 51, 43, 21, 6, 46, 133, 20, 0, 52, 127, 44]
abbrev dktJ24_divadd_0 : List UInt8 := dkwJ24_divadd_0 ++ dktJ24_divadd_1
theorem dksJ24_divadd_0 : cJ24_divadd.data.toList.drop 0 = dktJ24_divadd_0 := by decide +kernel
theorem dksJ24_divadd_1 : cJ24_divadd.data.toList.drop 24 = dktJ24_divadd_1 := dk_seg dksJ24_divadd_0 24 rfl rfl
theorem dksJ24_divadd_2 : cJ24_divadd.data.toList.drop 48 = dktJ24_divadd_2 := dk_seg dksJ24_divadd_1 24 rfl rfl
theorem dJ24_divadd_0 : decode cJ24_divadd 0 = .ok (.lconst 0, 1) := dk_9 (dk_at dksJ24_divadd_0 0 rfl rfl)
theorem dJ24_divadd_1 : decode cJ24_divadd 1 = .ok (.lstore 4, 2) := dk_55 4 (dk_at dksJ24_divadd_0 1 rfl rfl)
theorem dJ24_divadd_3 : decode cJ24_divadd 3 = .ok (.aload_n 1, 1) := dk_43 (dk_at dksJ24_divadd_0 3 rfl rfl)
theorem dJ24_divadd_4 : decode cJ24_divadd 4 = .ok (.arraylength, 1) := dk_190 (dk_at dksJ24_divadd_0 4 rfl rfl)
theorem dJ24_divadd_5 : decode cJ24_divadd 5 = .ok (.iconst 1, 1) := dk_4 (dk_at dksJ24_divadd_0 5 rfl rfl)
theorem dJ24_divadd_6 : decode cJ24_divadd 6 = .ok (.isub, 1) := dk_100 (dk_at dksJ24_divadd_0 6 rfl rfl)
theorem dJ24_divadd_7 : decode cJ24_divadd 7 = .ok (.istore 6, 2) := dk_54 6 (dk_at dksJ24_divadd_0 7 rfl rfl)
theorem dJ24_divadd_9 : decode cJ24_divadd 9 = .ok (.iload 6, 2) := dk_21 6 (dk_at dksJ24_divadd_0 9 rfl rfl)
theorem dJ24_divadd_11 : decode cJ24_divadd 11 = .ok (.ifCond .lt 51, 3) := dk_155 0 51 (dk_at dksJ24_divadd_0 11 rfl rfl)
theorem dJ24_divadd_14 : decode cJ24_divadd 14 = .ok (.aload_n 1, 1) := dk_43 (dk_at dksJ24_divadd_0 14 rfl rfl)
theorem dJ24_divadd_15 : decode cJ24_divadd 15 = .ok (.iload 6, 2) := dk_21 6 (dk_at dksJ24_divadd_0 15 rfl rfl)
theorem dJ24_divadd_17 : decode cJ24_divadd 17 = .ok (.iaload, 1) := dk_46 (dk_at dksJ24_divadd_0 17 rfl rfl)
theorem dJ24_divadd_18 : decode cJ24_divadd 18 = .ok (.i2l, 1) := dk_133 (dk_at dksJ24_divadd_0 18 rfl rfl)
theorem dJ24_divadd_19 : decode cJ24_divadd 19 = .ok (.ldc2_w 52, 3) := dk_20 0 52 (dk_at dksJ24_divadd_0 19 rfl rfl)
theorem dJ24_divadd_22 : decode cJ24_divadd 22 = .ok (.land, 1) := dk_127 (dk_at dksJ24_divadd_0 22 rfl rfl)
theorem dJ24_divadd_23 : decode cJ24_divadd 23 = .ok (.aload_n 2, 1) := dk_44 (dk_at dksJ24_divadd_0 23 rfl rfl)
theorem dJ24_divadd_24 : decode cJ24_divadd 24 = .ok (.iload 6, 2) := dk_21 6 (dk_at dksJ24_divadd_1 0 rfl rfl)
theorem dJ24_divadd_26 : decode cJ24_divadd 26 = .ok (.iload_n 3, 1) := dk_29 (dk_at dksJ24_divadd_1 2 rfl rfl)
theorem dJ24_divadd_27 : decode cJ24_divadd 27 = .ok (.iadd, 1) := dk_96 (dk_at dksJ24_divadd_1 3 rfl rfl)
theorem dJ24_divadd_28 : decode cJ24_divadd 28 = .ok (.iaload, 1) := dk_46 (dk_at dksJ24_divadd_1 4 rfl rfl)
theorem dJ24_divadd_29 : decode cJ24_divadd 29 = .ok (.i2l, 1) := dk_133 (dk_at dksJ24_divadd_1 5 rfl rfl)
theorem dJ24_divadd_30 : decode cJ24_divadd 30 = .ok (.ldc2_w 52, 3) := dk_20 0 52 (dk_at dksJ24_divadd_1 6 rfl rfl)
theorem dJ24_divadd_33 : decode cJ24_divadd 33 = .ok (.land, 1) := dk_127 (dk_at dksJ24_divadd_1 9 rfl rfl)
theorem dJ24_divadd_34 : decode cJ24_divadd 34 = .ok (.ladd, 1) := dk_97 (dk_at dksJ24_divadd_1 10 rfl rfl)
theorem dJ24_divadd_35 : decode cJ24_divadd 35 = .ok (.lload 4, 2) := dk_22 4 (dk_at dksJ24_divadd_1 11 rfl rfl)
theorem dJ24_divadd_37 : decode cJ24_divadd 37 = .ok (.ladd, 1) := dk_97 (dk_at dksJ24_divadd_1 13 rfl rfl)
theorem dJ24_divadd_38 : decode cJ24_divadd 38 = .ok (.lstore 7, 2) := dk_55 7 (dk_at dksJ24_divadd_1 14 rfl rfl)
theorem dJ24_divadd_40 : decode cJ24_divadd 40 = .ok (.aload_n 2, 1) := dk_44 (dk_at dksJ24_divadd_1 16 rfl rfl)
theorem dJ24_divadd_41 : decode cJ24_divadd 41 = .ok (.iload 6, 2) := dk_21 6 (dk_at dksJ24_divadd_1 17 rfl rfl)
theorem dJ24_divadd_43 : decode cJ24_divadd 43 = .ok (.iload_n 3, 1) := dk_29 (dk_at dksJ24_divadd_1 19 rfl rfl)
theorem dJ24_divadd_44 : decode cJ24_divadd 44 = .ok (.iadd, 1) := dk_96 (dk_at dksJ24_divadd_1 20 rfl rfl)
theorem dJ24_divadd_45 : decode cJ24_divadd 45 = .ok (.lload 7, 2) := dk_22 7 (dk_at dksJ24_divadd_1 21 rfl rfl)
theorem dJ24_divadd_47 : decode cJ24_divadd 47 = .ok (.l2i, 1) := dk_136 (dk_at dksJ24_divadd_1 23 rfl rfl)
theorem dJ24_divadd_48 : decode cJ24_divadd 48 = .ok (.iastore, 1) := dk_79 (dk_at dksJ24_divadd_2 0 rfl rfl)
theorem dJ24_divadd_49 : decode cJ24_divadd 49 = .ok (.lload 7, 2) := dk_22 7 (dk_at dksJ24_divadd_2 1 rfl rfl)
theorem dJ24_divadd_51 : decode cJ24_divadd 51 = .ok (.bipush 32, 2) := dk_16 32 (dk_at dksJ24_divadd_2 3 rfl rfl)
theorem dJ24_divadd_53 : decode cJ24_divadd 53 = .ok (.lushr, 1) := dk_125 (dk_at dksJ24_divadd_2 5 rfl rfl)
theorem dJ24_divadd_54 : decode cJ24_divadd 54 = .ok (.lstore 4, 2) := dk_55 4 (dk_at dksJ24_divadd_2 6 rfl rfl)
theorem dJ24_divadd_56 : decode cJ24_divadd 56 = .ok (.iinc 6 (-1), 3) := dk_132 6 255 (dk_at dksJ24_divadd_2 8 rfl rfl)
theorem dJ24_divadd_59 : decode cJ24_divadd 59 = .ok (.goto (-50), 3) := dk_167 255 206 (dk_at dksJ24_divadd_2 11 rfl rfl)
theorem dJ24_divadd_62 : decode cJ24_divadd 62 = .ok (.lload 4, 2) := dk_22 4 (dk_at dksJ24_divadd_2 14 rfl rfl)
theorem dJ24_divadd_64 : decode cJ24_divadd 64 = .ok (.l2i, 1) := dk_136 (dk_at dksJ24_divadd_2 16 rfl rfl)
theorem dJ24_divadd_65 : decode cJ24_divadd 65 = .ok (.ireturn, 1) := dk_172 (dk_at dksJ24_divadd_2 17 rfl rfl)
def dkwJ24_unsignedLongCompare_0 : List UInt8 := [31, 20, 0, 79, 97, 33, 20, 0, 79, 97, 148, 158, 0, 7, 4, 167, 0, 4, 3, 172]
abbrev dktJ24_unsignedLongCompare_0 : List UInt8 := dkwJ24_unsignedLongCompare_0 ++ []
theorem dksJ24_unsignedLongCompare_0 : cJ24_unsignedLongCompare.data.toList.drop 0 = dktJ24_unsignedLongCompare_0 := by decide +kernel
theorem dJ24_unsignedLongCompare_0 : decode cJ24_unsignedLongCompare 0 = .ok (.lload_n 1, 1) := dk_31 (dk_at dksJ24_unsignedLongCompare_0 0 rfl rfl)
theorem dJ24_unsignedLongCompare_1 : decode cJ24_unsignedLongCompare 1 = .ok (.ldc2_w 79, 3) := dk_20 0 79 (dk_at dksJ24_unsignedLongCompare_0 1 rfl rfl)
theorem dJ24_unsignedLongCompare_4 : decode cJ24_unsignedLongCompare 4 = .ok (.ladd, 1) := dk_97 (dk_at dksJ24_unsignedLongCompare_0 4 rfl rfl)
theorem dJ24_unsignedLongCompare_5 : decode cJ24_unsignedLongCompare 5 = .ok (.lload_n 3, 1) := dk_33 (dk_at dksJ24_unsignedLongCompare_0 5 rfl rfl)
theorem dJ24_unsignedLongCompare_6 : decode cJ24_unsignedLongCompare 6 = .ok (.ldc2_w 79, 3) := dk_20 0 79 (dk_at dksJ24_unsignedLongCompare_0 6 rfl rfl)
theorem dJ24_unsignedLongCompare_9 : decode cJ24_unsignedLongCompare 9 = .ok (.ladd, 1) := dk_97 (dk_at dksJ24_unsignedLongCompare_0 9 rfl rfl)
theorem dJ24_unsignedLongCompare_10 : decode cJ24_unsignedLongCompare 10 = .ok (.lcmp, 1) := dk_148 (dk_at dksJ24_unsignedLongCompare_0 10 rfl rfl)
theorem dJ24_unsignedLongCompare_11 : decode cJ24_unsignedLongCompare 11 = .ok (.ifCond .le 7, 3) := dk_158 0 7 (dk_at dksJ24_unsignedLongCompare_0 11 rfl rfl)
theorem dJ24_unsignedLongCompare_14 : decode cJ24_unsignedLongCompare 14 = .ok (.iconst 1, 1) := dk_4 (dk_at dksJ24_unsignedLongCompare_0 14 rfl rfl)
theorem dJ24_unsignedLongCompare_15 : decode cJ24_unsignedLongCompare 15 = .ok (.goto 4, 3) := dk_167 0 4 (dk_at dksJ24_unsignedLongCompare_0 15 rfl rfl)
theorem dJ24_unsignedLongCompare_18 : decode cJ24_unsignedLongCompare 18 = .ok (.iconst 0, 1) := dk_3 (dk_at dksJ24_unsignedLongCompare_0 18 rfl rfl)
theorem dJ24_unsignedLongCompare_19 : decode cJ24_unsignedLongCompare 19 = .ok (.ireturn, 1) := dk_172 (dk_at dksJ24_unsignedLongCompare_0 19 rfl rfl)
/-! ### more parts of division -/
theorem lN_min {a : Nat} : lN a + (-9223372036854775808) = lI ((a : Int) - 9223372036854775808) := by
  rw [lN_lI, show (-9223372036854775808 : Int64) = lI (-9223372036854775808) by decide, lI_add]
  rfl
theorem da_A {g e d : Nat → Nat} {k o t P y : Nat} (hy : 1 ≤ y) (hP : P = d (y - 1) + g (o + y - 1) + k) (h : seg e (o + y) t + k * 4294967296 ^ t = seg g (o + y) t + seg d y t) :
    seg (dup e (o + y - 1) (P % 4294967296)) (o + y - 1) (t + 1) + P / 4294967296 * 4294967296 ^ (t + 1) = seg g (o + y - 1) (t + 1) + seg d (y - 1) (t + 1) := by
  have q := mul_step (z := g) (z' := dup e (o + y - 1) (P % 4294967296)) (y := d) (b := 1) (k := k) (k' := P / 4294967296) (o := o + y - 1) (oy := y - 1) (t := t) (P := P) (by rw [Nat.mul_one]; exact hP) ?_ dup_s rfl
  · rwa [Nat.one_mul] at q
  · rw [show o + y - 1 + 1 = o + y by omega, show y - 1 + 1 = y by omega, seg_cg (d := dup e (o + y - 1) (P % 4294967296)) (e := e) (fun i h1 h2 => dup_n (by omega)), h, Nat.one_mul]
/-- a quotient by halves is near -/
theorem dw_1 {N D : Nat} (hD : 2147483648 ≤ D) (hD9 : D < 4294967296) (hN : N < 18446744073709551616) : (N / 2) / (D / 2) * D ≤ N + 34359738368 ∧ N < (N / 2) / (D / 2) * D + 34359738368 ∧ (N / 2) / (D / 2) < 18446744073709551616 := by
  have h1 := Nat.div_add_mod (N / 2) (D / 2)
  have h2 : N / 2 % (D / 2) < D / 2 := Nat.mod_lt _ (by omega)
  have h3 : (N / 2) / (D / 2) < 17179869184 := by
    rw [Nat.div_lt_iff_lt_mul (by omega)]
    have : 17179869184 * 1073741824 ≤ 17179869184 * (D / 2) := Nat.mul_le_mul_left _ (by omega)
    omega
  generalize (N / 2) / (D / 2) = Q at *
  generalize N / 2 % (D / 2) = R at *
  have e : Q * D = 2 * (D / 2 * Q) + Q * (D % 2) := by
    have hd : D = 2 * (D / 2) + D % 2 := by omega
    generalize D / 2 = x at *
    generalize D % 2 = y at *
    subst hd
    grind
  have e2 : Q * (D % 2) ≤ Q := by
    rcases Nat.mod_two_eq_zero_or_one D with q | q <;> rw [q] <;> omega
  rw [e]
  generalize D / 2 * Q = T at *
  generalize Q * (D % 2) = U at *
  omega
theorem dw_end {N D q r : Nat} (hD : 0 < D) (h : N = q * D + r) (hr : r < D) : q = N / D ∧ r = N % D := by
  subst h
  rw [Nat.mul_comm, Nat.mul_add_div hD, Nat.mul_add_mod, Nat.div_eq_of_lt hr, Nat.mod_eq_of_lt hr]
  exact ⟨rfl, rfl⟩
theorem lN_or {a b : Nat} (hb : b < 4294967296) (ha : a < 4294967296) : lN (a * 4294967296) ||| lN b = lN (a * 4294967296 + b) := by
  apply Int64.toBitVec_inj.mp
  apply BitVec.eq_of_toNat_eq
  rw [Int64.toBitVec_or, BitVec.toNat_or]
  show (BitVec.ofNat 64 (a * 4294967296)).toNat ||| (BitVec.ofNat 64 b).toNat = (BitVec.ofNat 64 _).toNat
  rw [BitVec.toNat_ofNat, BitVec.toNat_ofNat, BitVec.toNat_ofNat, Nat.mod_eq_of_lt (by omega), Nat.mod_eq_of_lt (by omega), Nat.mod_eq_of_lt (by omega), Nat.mul_comm]
  exact (Nat.two_pow_add_eq_or_of_lt (i := 32) hb a).symm
theorem lI_and {i : Int} {n : Nat} (h : i = n) (hn : n < 4294967296) : lI i &&& 4294967295 = lN n := by
  subst h
  rw [← lN_lI, lN_and, Nat.mod_eq_of_lt hn]
theorem wk_seg {d g : Nat → Nat} {o s n : Nat} (hn : 0 < n) : seg (dup (wk d g o s (n - 1)) (o + n - 1) ((d (n - 1) * 2 ^ s) % 4294967296)) o n = seg (shl d s n) 0 n := by
  unfold seg
  refine val_cg fun i hi => ?_
  unfold dup wk shl
  rw [Nat.zero_add]
  by_cases h : i = n - 1
  · subst h
    rw [if_pos (by omega), if_neg (by omega)]
    omega
  · rw [if_neg (by omega), if_pos (by omega), if_pos (by omega), show o + i - o = i by omega]

set_option maxHeartbeats 1000000 in
theorem m_mulsubB (l : Launch) (z : State) (H0 : Heap) (a : Nat) (zr : Nat) (x : Nat) (L o n K nx : Nat) (w wt : Bool) (g d : Nat → Nat) (vt : Nat) (nt ot : Int32) (hzx : zr ≠ x) (hL : L < 1000000) (hnx9 : nx < 1000000) (hon : o + 1 + n ≤ L) (hnx : n ≤ nx) (hK : K < 4294967296) (hg : ∀ i, g i < 4294967296) (hd : ∀ i, d i < 4294967296) (hZ : gI z true .int H0 zr L (dI g)) (hX : gI z w .int H0 x nx (dI d)) (hT : gO z wt RJ24 TJ24 3 H0 a [.ref vt, .int nt, .int ot]) : Met l yJ24_mulsubBorrow (ws_ yJ24_mulsubBorrow cJ24_mulsubBorrow 15 (some .int)) { frames := 0, cells := 0, slots := 0, locals := 0 } (gPc z H0 [.ref a, .ref zr, .ref x, .int (nI K), .int (nI n), .int (nI o)]) (gPi H0 (fun r => ∃ kk X, r = nI kk ∧ kk < 4294967296 ∧ X < 4294967296 ^ n ∧ X + K * seg d 0 n = seg g (o + 1) n + kk * 4294967296 ^ n)) 0 0 gno := by
  refine g_start (by decide +kernel) (Nat.le_of_ble_eq_true rfl) ?_
  intro p e s m below meth c ls hx hb hr hlocks hml hown hname hts hwm hl
  have hown : s.vm.findClass "java/math/MutableBigInteger" = some m.cls := hown
  have hal : z.vm.Alike s.vm := hwm.alike
  have hCF : CallFix p m c cJ24_mulsubBorrow 15 s [.ref a, .ref zr, .ref x, .int (nI K), .int (nI n), .int (nI o)].toArray lw_all "java/math/MutableBigInteger" := ⟨hx, hb, hml, hown, hts⟩
  have hl : lv_has ls 15 [(0, .ref a), (1, .ref zr), (2, .ref x), (3, .int (nI K)), (4, .int (nI n)), (5, .int (nI o))] := hl
  refine lv_iload_n hx hb dJ24_mulsubBorrow_0 rfl (lv_at hl 3 rfl) ?_
  refine lv_i2l hx hb dJ24_mulsubBorrow_1 rfl ?_
  refine lv_ldc2 (v := 4294967295) hx hb hown (hts _ q1035) dJ24_mulsubBorrow_2 ?_
  refine lv_land hx hb dJ24_mulsubBorrow_5 ?_
  refine g_topl (v := lN K) (mk32 (a := K) (rfl) (hK)) ?_
  refine lv_lstore hx hb dJ24_mulsubBorrow_6 hl (by decide) rfl (fun ls hl => ?_)
  have hl : lv_has ls 15 [(6, .long (lN K)), (0, .ref a), (1, .ref zr), (2, .ref x), (3, .int (nI K)), (4, .int (nI n)), (5, .int (nI o))] := hl
  refine lv_lconst (v := 0) hx hb dJ24_mulsubBorrow_8 (by decide) ?_
  refine lv_lstore hx hb dJ24_mulsubBorrow_9 hl (by decide) rfl (fun ls hl => ?_)
  have hl : lv_has ls 15 [(8, .long 0), (6, .long (lN K)), (0, .ref a), (1, .ref zr), (2, .ref x), (3, .int (nI K)), (4, .int (nI n)), (5, .int (nI o))] := hl
  refine lv_iload hx hb dJ24_mulsubBorrow_11 (lv_at hl 7 rfl) ?_
  refine lv_iload hx hb dJ24_mulsubBorrow_13 (lv_at hl 6 rfl) ?_
  refine lv_iadd hx hb dJ24_mulsubBorrow_15 ?_
  refine g_topi (v := (nI (o + n))) (nI_add _ _) ?_
  refine lv_istore hx hb dJ24_mulsubBorrow_16 hl (by decide) rfl (fun ls hl => ?_)
  have hl : lv_has ls 15 [(5, .int (nI (o + n))), (8, .long 0), (6, .long (lN K)), (0, .ref a), (1, .ref zr), (2, .ref x), (3, .int (nI K)), (4, .int (nI n))] := hl
  refine lv_iload hx hb dJ24_mulsubBorrow_18 (lv_at hl 7 rfl) ?_
  refine lv_iconst (v := 1) hx hb dJ24_mulsubBorrow_20 (by decide) ?_
  refine lv_isub hx hb dJ24_mulsubBorrow_21 ?_
  refine g_topi (v := iI ((n : Nat) - 1)) (ai_subI (a := (n : Nat)) (b := 1) (nI_iI _) (by decide)) ?_
  refine lv_istore hx hb dJ24_mulsubBorrow_22 hl (by decide) rfl (fun ls hl => ?_)
  have hl : lv_has ls 15 [(10, .int (iI ((n : Nat) - 1))), (5, .int (nI (o + n))), (8, .long 0), (6, .long (lN K)), (0, .ref a), (1, .ref zr), (2, .ref x), (3, .int (nI K)), (4, .int (nI n))] := hl
  replace hl : lv_has ls 15 [(10, .int (iI ((n : Int) - 1))), (5, .int (iI (((o + 1 + n : Nat) : Int) - 1))), (8, .long (lN 0)), (6, .long (lN K)), (0, .ref a), (1, .ref zr), (2, .ref x), (3, .int (nI K)), (4, .int (nI n))] := by
    rw [show (iI (((o + 1 + n : Nat) : Int) - 1)) = nI (o + n) by rw [nI_iI]; exact congrArg iI (by omega)]
    exact hl
  have loopA : ∀ (n_ : Nat) (t kk X : Nat), (t ≤ n) → (kk < 4294967296) → (X < 4294967296 ^ (n - t)) → (X + K * seg d t (n - t) = seg g (o + 1 + t) (n - t) + kk * 4294967296 ^ (n - t)) → (t) < n_ → ∀ (ls : Array Slot), lv_has ls 15 [(10, .int (iI ((t : Int) - 1))), (5, .int (iI (((o + 1 + t : Nat) : Int) - 1))), (8, .long (lN kk)), (6, .long (lN K)), (0, .ref a), (1, .ref zr), (2, .ref x), (3, .int (nI K)), (4, .int (nI n))] → W p l e { frames := 0, cells := 0, slots := 0, locals := 0 } s m [.ref a, .ref zr, .ref x, .int (nI K), .int (nI n), .int (nI o)].toArray below meth c H0 [] 0 0 (MQ below (gPi H0 (fun r => ∃ kk X, r = nI kk ∧ kk < 4294967296 ∧ X < 4294967296 ^ n ∧ X + K * seg d 0 n = seg g (o + 1) n + kk * 4294967296 ^ n)) [.ref a, .ref zr, .ref x, .int (nI K), .int (nI n), .int (nI o)].toArray s 0 0 (gno)) (F0 m 24 ls []) := by
    intro n_
    induction n_ with
    | zero => intro t kk X ht hkk hX9 hs hm_; exact absurd hm_ (Nat.not_lt_zero _)
    | succ n_ ih_loopA =>
      intro t kk X ht hkk hX9 hs hm_ ls hl
      refine lv_iload hx hb dJ24_mulsubBorrow_24 (lv_at hl 0 rfl) ?_
      refine lv_if_lt (tgt := 99) hx hb dJ24_mulsubBorrow_26 (by decide) (fun c_26 => ?_) (fun c_26 => ?_)
      · skip
        have c_26 := (ai_ltI (a := ((t : Int) - 1)) (b := 0) (rfl) (by decide) (by omega) (by omega) (by omega) (by omega)).mp c_26
        refine lv_lload hx hb dJ24_mulsubBorrow_99 (lv_at hl 2 rfl) ?_
        refine lv_l2i hx hb dJ24_mulsubBorrow_101 rfl ?_
        refine g_topi (v := nI kk) (ai_l2i (rfl)) ?_
        refine g_iretP hx hb hr hlocks ?_ dJ24_mulsubBorrow_102
        have e0 : t = 0 := by omega
        subst e0
        rw [Nat.sub_zero, Nat.add_zero] at hs
        exact ⟨kk, X, rfl, hkk, by rwa [Nat.sub_zero] at hX9, hs⟩
      · skip
        have c_26 := mt (ai_ltI (a := ((t : Int) - 1)) (b := 0) (rfl) (by decide) (by omega) (by omega) (by omega) (by omega)).mpr c_26
        replace hl : lv_has ls 15 [(10, .int (nI (t - 1))), (5, .int (iI (((o + 1 + t : Nat) : Int) - 1))), (8, .long (lN kk)), (6, .long (lN K)), (0, .ref a), (1, .ref zr), (2, .ref x), (3, .int (nI K)), (4, .int (nI n))] := by
          rw [show nI (t - 1) = iI ((t : Int) - 1) by rw [nI_iI]; exact congrArg iI (by omega)]
          exact hl
        replace hl : lv_has ls 15 [(10, .int (nI (t - 1))), (5, .int (nI (o + t))), (8, .long (lN kk)), (6, .long (lN K)), (0, .ref a), (1, .ref zr), (2, .ref x), (3, .int (nI K)), (4, .int (nI n))] := by
          rw [show nI (o + t) = iI (((o + 1 + t : Nat) : Int) - 1) by rw [nI_iI]; exact congrArg iI (by omega)]
          exact hl
        refine lv_aload_n hx hb dJ24_mulsubBorrow_29 rfl (lv_at hl 6 rfl) ?_
        refine lv_iload hx hb dJ24_mulsubBorrow_30 (lv_at hl 0 rfl) ?_
        refine gw_iald hx hb hal hX (t - 1) (rfl) (by omega) (by omega) dJ24_mulsubBorrow_32 ?_
        refine g_topi (v := (nI (d (t - 1)))) rfl ?_
        refine lv_i2l hx hb dJ24_mulsubBorrow_33 rfl ?_
        refine lv_ldc2 (v := 4294967295) hx hb hown (hts _ q1035) dJ24_mulsubBorrow_34 ?_
        refine lv_land hx hb dJ24_mulsubBorrow_37 ?_
        refine g_topl (v := lN (d (t - 1))) (mk32 (a := (d (t - 1))) (rfl) (hd _)) ?_
        refine lv_lload hx hb dJ24_mulsubBorrow_38 (lv_at hl 3 rfl) ?_
        refine lv_lmul hx hb dJ24_mulsubBorrow_40 ?_
        refine g_topl (v := lN ((d (t - 1)) * K)) (ai_mulL (a := (d (t - 1))) (b := K) (rfl) (rfl)) ?_
        refine lv_lload hx hb dJ24_mulsubBorrow_41 (lv_at hl 2 rfl) ?_
        refine lv_ladd hx hb dJ24_mulsubBorrow_43 ?_
        refine g_topl (v := lN (((d (t - 1)) * K) + kk)) (ai_addL (a := ((d (t - 1)) * K)) (b := kk) (rfl) (rfl)) ?_
        obtain ⟨P, hP⟩ : ∃ P : Nat, P = (((d (t - 1)) * K) + kk) := ⟨_, rfl⟩
        refine g_topl (v := lN P) (by rw [hP]) ?_
        have hP9 : P < 18446744073709551616 := by rw [hP]; have := mul_bd (hd (t - 1)) hK (show 0 < 4294967296 by decide) hkk; omega
        have hgot : g (o + t) = g (o + 1 + t - 1) := by rw [show o + t = o + 1 + t - 1 by omega]
        have hgb := hg (o + 1 + t - 1)
        refine lv_lstore hx hb dJ24_mulsubBorrow_44 hl (by decide) rfl (fun ls hl => ?_)
        have hl : lv_has ls 15 [(11, .long (lN P)), (10, .int (nI (t - 1))), (5, .int (nI (o + t))), (8, .long (lN kk)), (6, .long (lN K)), (0, .ref a), (1, .ref zr), (2, .ref x), (3, .int (nI K)), (4, .int (nI n))] := hl
        refine lv_aload_n hx hb dJ24_mulsubBorrow_46 rfl (lv_at hl 6 rfl) ?_
        refine lv_iload hx hb dJ24_mulsubBorrow_47 (lv_at hl 2 rfl) ?_
        refine lv_iinc (k := 2) (v := (iI (((o + t : Nat) : Int) - 1))) hx hb dJ24_mulsubBorrow_49 hl rfl (by rw [nI_iI, show Int32.ofInt (-1) = iI (-1) from rfl, iI_add]; exact congrArg iI (by omega)) (by decide) rfl (fun ls hl => ?_)
        have hl : lv_has ls 15 [(5, .int (iI (((o + t : Nat) : Int) - 1))), (11, .long (lN P)), (10, .int (nI (t - 1))), (8, .long (lN kk)), (6, .long (lN K)), (0, .ref a), (1, .ref zr), (2, .ref x), (3, .int (nI K)), (4, .int (nI n))] := hl
        refine gw_iald hx hb hal hZ (o + t) (rfl) (by omega) (by omega) dJ24_mulsubBorrow_52 ?_
        refine g_topi (v := (nI (g (o + t)))) rfl ?_
        refine lv_i2l hx hb dJ24_mulsubBorrow_53 rfl ?_
        refine lv_lload hx hb dJ24_mulsubBorrow_54 (lv_at hl 1 rfl) ?_
        refine lv_lsub hx hb dJ24_mulsubBorrow_56 ?_
        refine lv_lstore hx hb dJ24_mulsubBorrow_57 hl (by decide) rfl (fun ls hl => ?_)
        have hl : lv_has ls 15 [(13, .long ((nI (g (o + t))).toInt64 - lN P)), (5, .int (iI (((o + t : Nat) : Int) - 1))), (11, .long (lN P)), (10, .int (nI (t - 1))), (8, .long (lN kk)), (6, .long (lN K)), (0, .ref a), (1, .ref zr), (2, .ref x), (3, .int (nI K)), (4, .int (nI n))] := hl
        refine lv_lload hx hb dJ24_mulsubBorrow_59 (lv_at hl 2 rfl) ?_
        refine lv_bipush (v := 32) hx hb dJ24_mulsubBorrow_61 (by decide) ?_
        refine lv_lushr hx hb dJ24_mulsubBorrow_63 rfl ?_
        refine g_topl (v := lN (P / 4294967296)) (lN_shr32 (a := P) (hP9)) ?_
        have hdf : dfd (g (o + 1 + t - 1)) P < 4294967296 := Nat.mod_lt _ (by decide)
        refine lv_lload hx hb dJ24_mulsubBorrow_64 (lv_at hl 0 rfl) ?_
        refine lv_ldc2 (v := 4294967295) hx hb hown (hts _ q1035) dJ24_mulsubBorrow_66 ?_
        refine lv_land hx hb dJ24_mulsubBorrow_69 ?_
        refine g_topl (v := (lN (dfd (g (o + 1 + t - 1)) P))) (by rw [hgot]; exact dif_m hgb) ?_
        refine lv_lload hx hb dJ24_mulsubBorrow_70 (lv_at hl 2 rfl) ?_
        refine lv_l2i hx hb dJ24_mulsubBorrow_72 rfl ?_
        refine g_topi (v := nI P) (ai_l2i (rfl)) ?_
        refine lv_iconst (v := -1) hx hb dJ24_mulsubBorrow_73 (by decide) ?_
        refine lv_ixor hx hb dJ24_mulsubBorrow_74 ?_
        refine g_topi (v := (nI (4294967295 - P % 4294967296))) (by rw [← nI_mod P]; exact nI_not (Nat.mod_lt _ (by decide))) ?_
        refine lv_i2l hx hb dJ24_mulsubBorrow_75 rfl ?_
        refine lv_ldc2 (v := 4294967295) hx hb hown (hts _ q1035) dJ24_mulsubBorrow_76 ?_
        refine lv_land hx hb dJ24_mulsubBorrow_79 ?_
        refine g_topl (v := lN (4294967295 - P % 4294967296)) (mk32 (a := (4294967295 - P % 4294967296)) (rfl) (by omega)) ?_
        refine W.lcmp hx hb dJ24_mulsubBorrow_80 ?_
        refine lv_if_le (tgt := 88) hx hb dJ24_mulsubBorrow_81 (by decide) (fun c_81 => ?_) (fun c_81 => ?_)
        · skip
          have c_81 := (ai_cle (a := ((dfd (g (o + 1 + t - 1)) P) : Nat)) (b := ((4294967295 - P % 4294967296) : Nat)) (lN_lI _) (lN_lI _) (by omega) (by omega) (by omega) (by omega)).mp c_81
          have hcc : (P / 4294967296 + (if 4294967295 - P % 4294967296 < dfd (g (o + 1 + t - 1)) P then 1 else 0)) = P / 4294967296 := by rw [if_neg (by omega), Nat.add_zero]
          refine lv_iconst (v := 0) hx hb dJ24_mulsubBorrow_88 (by decide) ?_
          refine lv_i2l hx hb dJ24_mulsubBorrow_89 rfl ?_
          refine g_topl (v := lN 0) (ai_i2l (rfl) (by omega)) ?_
          refine lv_ladd hx hb dJ24_mulsubBorrow_90 ?_
          refine g_topl (v := (lN (P / 4294967296 + (if 4294967295 - P % 4294967296 < dfd (g (o + 1 + t - 1)) P then 1 else 0)))) ?_ ?_
          · skip
            rw [hcc]
            exact lN_add _ _
          refine lv_lstore hx hb dJ24_mulsubBorrow_91 hl (by decide) rfl (fun ls hl => ?_)
          have hl : lv_has ls 15 [(8, .long (lN (P / 4294967296 + (if 4294967295 - P % 4294967296 < dfd (g (o + 1 + t - 1)) P then 1 else 0)))), (13, .long ((nI (g (o + t))).toInt64 - lN P)), (5, .int (iI (((o + t : Nat) : Int) - 1))), (11, .long (lN P)), (10, .int (nI (t - 1))), (6, .long (lN K)), (0, .ref a), (1, .ref zr), (2, .ref x), (3, .int (nI K)), (4, .int (nI n))] := hl
          refine lv_iinc (k := 4) (v := (iI (((t - 1 : Nat) : Int) - 1))) hx hb dJ24_mulsubBorrow_93 hl rfl (by rw [nI_iI, show Int32.ofInt (-1) = iI (-1) from rfl, iI_add]; exact congrArg iI (by omega)) (by decide) rfl (fun ls hl => ?_)
          have hl : lv_has ls 15 [(10, .int (iI (((t - 1 : Nat) : Int) - 1))), (8, .long (lN (P / 4294967296 + (if 4294967295 - P % 4294967296 < dfd (g (o + 1 + t - 1)) P then 1 else 0)))), (13, .long ((nI (g (o + t))).toInt64 - lN P)), (5, .int (iI (((o + t : Nat) : Int) - 1))), (11, .long (lN P)), (6, .long (lN K)), (0, .ref a), (1, .ref zr), (2, .ref x), (3, .int (nI K)), (4, .int (nI n))] := hl
          refine lv_goto (tgt := 24) hx hb dJ24_mulsubBorrow_96 (by decide) ?_
          replace hl : lv_has ls 15 [(10, .int (iI (((t - 1 : Nat) : Int) - 1))), (8, .long (lN (P / 4294967296 + (if 4294967295 - P % 4294967296 < dfd (g (o + 1 + t - 1)) P then 1 else 0)))), (13, .long ((nI (g (o + t))).toInt64 - lN P)), (5, .int (iI (((o + 1 + (t - 1) : Nat) : Int) - 1))), (11, .long (lN P)), (6, .long (lN K)), (0, .ref a), (1, .ref zr), (2, .ref x), (3, .int (nI K)), (4, .int (nI n))] := by
            rw [show (((o + 1 + (t - 1) : Nat) : Int) - 1) = (((o + t : Nat) : Int) - 1) by omega]
            exact hl
          exact ih_loopA (t - 1) (P / 4294967296 + (if 4294967295 - P % 4294967296 < dfd (g (o + 1 + t - 1)) P then 1 else 0)) (dfd (g (o + 1 + t - 1)) P * 4294967296 ^ (n - t) + X) (by omega) (by rw [hP]; exact ms_carry (hd _) hK hkk (hg _)) (by rw [show n - (t - 1) = n - t + 1 by omega, Nat.pow_succ]; have h1 : (dfd (g (o + 1 + t - 1)) P + 1) * 4294967296 ^ (n - t) ≤ 4294967296 * 4294967296 ^ (n - t) := Nat.mul_le_mul_right _ hdf; rw [Nat.add_mul, Nat.one_mul] at h1; rw [Nat.mul_comm (4294967296 ^ (n - t))]; omega) (by have q := ms_B (o := o + 1) (t := n - t) hg (by omega) hP hs; rw [show o + 1 + (t - 1) = o + 1 + t - 1 by omega, show n - (t - 1) = n - t + 1 by omega]; exact q) (by omega) ls (lv_sub hl [0, 3, 1, 5, 6, 7, 8, 9, 10] rfl)
        · skip
          have c_81 := mt (ai_cle (a := ((dfd (g (o + 1 + t - 1)) P) : Nat)) (b := ((4294967295 - P % 4294967296) : Nat)) (lN_lI _) (lN_lI _) (by omega) (by omega) (by omega) (by omega)).mpr c_81
          have hcc : (P / 4294967296 + (if 4294967295 - P % 4294967296 < dfd (g (o + 1 + t - 1)) P then 1 else 0)) = P / 4294967296 + 1 := by rw [if_pos (by omega)]
          refine lv_iconst (v := 1) hx hb dJ24_mulsubBorrow_84 (by decide) ?_
          refine lv_goto (tgt := 89) hx hb dJ24_mulsubBorrow_85 (by decide) ?_
          refine lv_i2l hx hb dJ24_mulsubBorrow_89 rfl ?_
          refine g_topl (v := lN 1) (ai_i2l (rfl) (by omega)) ?_
          refine lv_ladd hx hb dJ24_mulsubBorrow_90 ?_
          refine g_topl (v := (lN (P / 4294967296 + (if 4294967295 - P % 4294967296 < dfd (g (o + 1 + t - 1)) P then 1 else 0)))) ?_ ?_
          · skip
            rw [hcc]
            exact lN_add _ _
          refine lv_lstore hx hb dJ24_mulsubBorrow_91 hl (by decide) rfl (fun ls hl => ?_)
          have hl : lv_has ls 15 [(8, .long (lN (P / 4294967296 + (if 4294967295 - P % 4294967296 < dfd (g (o + 1 + t - 1)) P then 1 else 0)))), (13, .long ((nI (g (o + t))).toInt64 - lN P)), (5, .int (iI (((o + t : Nat) : Int) - 1))), (11, .long (lN P)), (10, .int (nI (t - 1))), (6, .long (lN K)), (0, .ref a), (1, .ref zr), (2, .ref x), (3, .int (nI K)), (4, .int (nI n))] := hl
          refine lv_iinc (k := 4) (v := (iI (((t - 1 : Nat) : Int) - 1))) hx hb dJ24_mulsubBorrow_93 hl rfl (by rw [nI_iI, show Int32.ofInt (-1) = iI (-1) from rfl, iI_add]; exact congrArg iI (by omega)) (by decide) rfl (fun ls hl => ?_)
          have hl : lv_has ls 15 [(10, .int (iI (((t - 1 : Nat) : Int) - 1))), (8, .long (lN (P / 4294967296 + (if 4294967295 - P % 4294967296 < dfd (g (o + 1 + t - 1)) P then 1 else 0)))), (13, .long ((nI (g (o + t))).toInt64 - lN P)), (5, .int (iI (((o + t : Nat) : Int) - 1))), (11, .long (lN P)), (6, .long (lN K)), (0, .ref a), (1, .ref zr), (2, .ref x), (3, .int (nI K)), (4, .int (nI n))] := hl
          refine lv_goto (tgt := 24) hx hb dJ24_mulsubBorrow_96 (by decide) ?_
          replace hl : lv_has ls 15 [(10, .int (iI (((t - 1 : Nat) : Int) - 1))), (8, .long (lN (P / 4294967296 + (if 4294967295 - P % 4294967296 < dfd (g (o + 1 + t - 1)) P then 1 else 0)))), (13, .long ((nI (g (o + t))).toInt64 - lN P)), (5, .int (iI (((o + 1 + (t - 1) : Nat) : Int) - 1))), (11, .long (lN P)), (6, .long (lN K)), (0, .ref a), (1, .ref zr), (2, .ref x), (3, .int (nI K)), (4, .int (nI n))] := by
            rw [show (((o + 1 + (t - 1) : Nat) : Int) - 1) = (((o + t : Nat) : Int) - 1) by omega]
            exact hl
          exact ih_loopA (t - 1) (P / 4294967296 + (if 4294967295 - P % 4294967296 < dfd (g (o + 1 + t - 1)) P then 1 else 0)) (dfd (g (o + 1 + t - 1)) P * 4294967296 ^ (n - t) + X) (by omega) (by rw [hP]; exact ms_carry (hd _) hK hkk (hg _)) (by rw [show n - (t - 1) = n - t + 1 by omega, Nat.pow_succ]; have h1 : (dfd (g (o + 1 + t - 1)) P + 1) * 4294967296 ^ (n - t) ≤ 4294967296 * 4294967296 ^ (n - t) := Nat.mul_le_mul_right _ hdf; rw [Nat.add_mul, Nat.one_mul] at h1; rw [Nat.mul_comm (4294967296 ^ (n - t))]; omega) (by have q := ms_B (o := o + 1) (t := n - t) hg (by omega) hP hs; rw [show o + 1 + (t - 1) = o + 1 + t - 1 by omega, show n - (t - 1) = n - t + 1 by omega]; exact q) (by omega) ls (lv_sub hl [0, 3, 1, 5, 6, 7, 8, 9, 10] rfl)
  exact loopA _ n 0 0 (Nat.le_refl _) (by decide) (by simp) (by simp [seg_z]) (Nat.lt_succ_self _) ls (lv_sub hl [0, 1, 2, 3, 4, 5, 6, 7, 8] rfl)
set_option maxHeartbeats 1000000 in
theorem m_divadd (l : Launch) (z : State) (H0 : Heap) (a : Nat) (x : Nat) (zr : Nat) (L o n : Nat) (w wt : Bool) (g d : Nat → Nat) (vt : Nat) (nt ot : Int32) (hzx : zr ≠ x) (hL : L < 1000000) (hn9 : n < 1000000) (hon : o + n ≤ L) (hg : ∀ i, g i < 4294967296) (hd : ∀ i, d i < 4294967296) (hZ : gI z true .int H0 zr L (dI g)) (hX : gI z w .int H0 x n (dI d)) (hT : gO z wt RJ24 TJ24 3 H0 a [.ref vt, .int nt, .int ot]) : Met l yJ24_divadd (ws_ yJ24_divadd cJ24_divadd 9 (some .int)) { frames := 0, cells := 0, slots := 0, locals := 0 } (gPc z H0 [.ref a, .ref x, .ref zr, .int (nI o)]) (gRi (fun q => q = zr) H0 (fun r H1 => ∃ kk gg, kk ≤ 1 ∧ (∀ i, gg i < 4294967296) ∧ (∀ i, (i < o ∨ o + n ≤ i) → gg i = g i) ∧ seg gg o n + kk * 4294967296 ^ n = seg g o n + seg d 0 n ∧ gI z true .int H1 zr L (dI gg))) 0 0 (fun q => q = zr) := by
  refine g_start (by decide +kernel) (Nat.le_of_ble_eq_true rfl) ?_
  intro p e s m below meth c ls hx hb hr hlocks hml hown hname hts hwm hl
  have hown : s.vm.findClass "java/math/MutableBigInteger" = some m.cls := hown
  have hal : z.vm.Alike s.vm := hwm.alike
  have hCF : CallFix p m c cJ24_divadd 9 s [.ref a, .ref x, .ref zr, .int (nI o)].toArray lw_all "java/math/MutableBigInteger" := ⟨hx, hb, hml, hown, hts⟩
  have hl : lv_has ls 9 [(0, .ref a), (1, .ref x), (2, .ref zr), (3, .int (nI o))] := hl
  have hS : va_S (fun q => q = zr) H0 H0 [] := va_S.rf
  have lt_zr := hZ.lt
  have lt_x := hX.lt
  refine lv_lconst (v := 0) hx hb dJ24_divadd_0 (by decide) ?_
  refine lv_lstore hx hb dJ24_divadd_1 hl (by decide) rfl (fun ls hl => ?_)
  have hl : lv_has ls 9 [(4, .long 0), (0, .ref a), (1, .ref x), (2, .ref zr), (3, .int (nI o))] := hl
  refine lv_aload_n hx hb dJ24_divadd_3 rfl (lv_at hl 2 rfl) ?_
  refine gw_len hx hb hal hX dJ24_divadd_4 ?_
  refine lv_iconst (v := 1) hx hb dJ24_divadd_5 (by decide) ?_
  refine lv_isub hx hb dJ24_divadd_6 ?_
  refine g_topi (v := iI ((n : Nat) - 1)) (ai_subI (a := (n : Nat)) (b := 1) (nI_iI _) (by decide)) ?_
  refine lv_istore hx hb dJ24_divadd_7 hl (by decide) rfl (fun ls hl => ?_)
  have hl : lv_has ls 9 [(6, .int (iI ((n : Nat) - 1))), (4, .long 0), (0, .ref a), (1, .ref x), (2, .ref zr), (3, .int (nI o))] := hl
  replace hl : lv_has ls 9 [(6, .int (iI ((n : Int) - 1))), (4, .long (lN 0)), (0, .ref a), (1, .ref x), (2, .ref zr), (3, .int (nI o))] := by
    exact hl
  have loopA : ∀ (n_ : Nat) (t kk : Nat) (gg : Nat → Nat), (t ≤ n) → (kk ≤ 1) → (∀ i, gg i < 4294967296) → (∀ i, (i < o + t ∨ o + n ≤ i) → gg i = g i) → (seg gg (o + t) (n - t) + kk * 4294967296 ^ (n - t) = seg g (o + t) (n - t) + seg d t (n - t)) → (t) < n_ → ∀ (H_1 : Heap) (locs : List Loc), va_S (fun q => q = zr) H0 H_1 locs → gI z true .int H_1 zr L (dI gg) → gI z w .int H_1 x n (dI d) → ∀ (ls : Array Slot), lv_has ls 9 [(6, .int (iI ((t : Int) - 1))), (4, .long (lN kk)), (0, .ref a), (1, .ref x), (2, .ref zr), (3, .int (nI o))] → W p l e { frames := 0, cells := 0, slots := 0, locals := 0 } s m [.ref a, .ref x, .ref zr, .int (nI o)].toArray below meth c H_1 locs 0 0 (MQ below (gRi (fun q => q = zr) H0 (fun r H1 => ∃ kk gg, kk ≤ 1 ∧ (∀ i, gg i < 4294967296) ∧ (∀ i, (i < o ∨ o + n ≤ i) → gg i = g i) ∧ seg gg o n + kk * 4294967296 ^ n = seg g o n + seg d 0 n ∧ gI z true .int H1 zr L (dI gg))) [.ref a, .ref x, .ref zr, .int (nI o)].toArray s 0 0 (fun q => q = zr)) (F0 m 9 ls []) := by
    intro n_
    induction n_ with
    | zero => intro t kk gg ht hkk hgg hgo hs hm_; exact absurd hm_ (Nat.not_lt_zero _)
    | succ n_ ih_loopA =>
      intro t kk gg ht hkk hgg hgo hs hm_ H_1 locs hS hZ hX ls hl
      refine lv_iload hx hb dJ24_divadd_9 (lv_at hl 0 rfl) ?_
      refine lv_if_lt (tgt := 62) hx hb dJ24_divadd_11 (by decide) (fun c_11 => ?_) (fun c_11 => ?_)
      · skip
        have c_11 := (ai_ltI (a := ((t : Int) - 1)) (b := 0) (rfl) (by decide) (by omega) (by omega) (by omega) (by omega)).mp c_11
        refine lv_lload hx hb dJ24_divadd_62 (lv_at hl 1 rfl) ?_
        refine lv_l2i hx hb dJ24_divadd_64 rfl ?_
        refine g_topi (v := nI kk) (ai_l2i (rfl)) ?_
        refine g_iret hx hb hr hlocks hS (Nat.le_of_ble_eq_true rfl) (Nat.le_of_ble_eq_true rfl) ?_ dJ24_divadd_65
        have e0 : t = 0 := by omega
        subst e0
        rw [Nat.sub_zero, Nat.add_zero] at hs
        exact ⟨kk, gg, hkk, hgg, fun i hi => hgo i (by omega), hs, hZ⟩
      · skip
        have c_11 := mt (ai_ltI (a := ((t : Int) - 1)) (b := 0) (rfl) (by decide) (by omega) (by omega) (by omega) (by omega)).mpr c_11
        replace hl : lv_has ls 9 [(6, .int (nI (t - 1))), (4, .long (lN kk)), (0, .ref a), (1, .ref x), (2, .ref zr), (3, .int (nI o))] := by
          rw [show nI (t - 1) = iI ((t : Int) - 1) by rw [nI_iI]; exact congrArg iI (by omega)]
          exact hl
        refine lv_aload_n hx hb dJ24_divadd_14 rfl (lv_at hl 3 rfl) ?_
        refine lv_iload hx hb dJ24_divadd_15 (lv_at hl 0 rfl) ?_
        refine gw_iald hx hb hal hX (t - 1) (rfl) (by omega) (by omega) dJ24_divadd_17 ?_
        refine g_topi (v := (nI (d (t - 1)))) rfl ?_
        refine lv_i2l hx hb dJ24_divadd_18 rfl ?_
        refine lv_ldc2 (v := 4294967295) hx hb hown (hts _ q1035) dJ24_divadd_19 ?_
        refine lv_land hx hb dJ24_divadd_22 ?_
        refine g_topl (v := lN (d (t - 1))) (mk32 (a := (d (t - 1))) (rfl) (hd _)) ?_
        refine lv_aload_n hx hb dJ24_divadd_23 rfl (lv_at hl 4 rfl) ?_
        refine lv_iload hx hb dJ24_divadd_24 (lv_at hl 0 rfl) ?_
        refine lv_iload_n hx hb dJ24_divadd_26 rfl (lv_at hl 5 rfl) ?_
        refine lv_iadd hx hb dJ24_divadd_27 ?_
        refine g_topi (v := nI ((t - 1) + o)) (ai_add (a := (t - 1)) (b := o) (rfl) (rfl)) ?_
        refine gw_iald hx hb hal hZ ((t - 1) + o) (rfl) (by omega) (by omega) dJ24_divadd_28 ?_
        refine g_topi (v := (nI (gg ((t - 1) + o)))) rfl ?_
        refine lv_i2l hx hb dJ24_divadd_29 rfl ?_
        refine lv_ldc2 (v := 4294967295) hx hb hown (hts _ q1035) dJ24_divadd_30 ?_
        refine lv_land hx hb dJ24_divadd_33 ?_
        refine g_topl (v := lN (gg ((t - 1) + o))) (mk32 (a := (gg ((t - 1) + o))) (rfl) (hgg _)) ?_
        refine lv_ladd hx hb dJ24_divadd_34 ?_
        refine g_topl (v := lN ((d (t - 1)) + (gg ((t - 1) + o)))) (ai_addL (a := (d (t - 1))) (b := (gg ((t - 1) + o))) (rfl) (rfl)) ?_
        refine lv_lload hx hb dJ24_divadd_35 (lv_at hl 1 rfl) ?_
        refine lv_ladd hx hb dJ24_divadd_37 ?_
        refine g_topl (v := lN (((d (t - 1)) + (gg ((t - 1) + o))) + kk)) (ai_addL (a := ((d (t - 1)) + (gg ((t - 1) + o)))) (b := kk) (rfl) (rfl)) ?_
        obtain ⟨P, hP⟩ : ∃ P : Nat, P = (((d (t - 1)) + (gg ((t - 1) + o))) + kk) := ⟨_, rfl⟩
        refine g_topl (v := lN P) (by rw [hP]) ?_
        have hq1 := hd (t - 1)
        have hq2 := hgg (t - 1 + o)
        refine lv_lstore hx hb dJ24_divadd_38 hl (by decide) rfl (fun ls hl => ?_)
        have hl : lv_has ls 9 [(7, .long (lN P)), (6, .int (nI (t - 1))), (4, .long (lN kk)), (0, .ref a), (1, .ref x), (2, .ref zr), (3, .int (nI o))] := hl
        refine lv_aload_n hx hb dJ24_divadd_40 rfl (lv_at hl 5 rfl) ?_
        refine lv_iload hx hb dJ24_divadd_41 (lv_at hl 1 rfl) ?_
        refine lv_iload_n hx hb dJ24_divadd_43 rfl (lv_at hl 6 rfl) ?_
        refine lv_iadd hx hb dJ24_divadd_44 ?_
        refine g_topi (v := nI ((t - 1) + o)) (ai_add (a := (t - 1)) (b := o) (rfl) (rfl)) ?_
        refine lv_lload hx hb dJ24_divadd_45 (lv_at hl 0 rfl) ?_
        refine lv_l2i hx hb dJ24_divadd_47 rfl ?_
        refine g_topi (v := nI P) (ai_l2i (rfl)) ?_
        refine gw_iast (f := (dI gg)) hx hb hal hZ hS (by have hsz := hS.1; (try dsimp only [gfr]) <;> omega) ((t - 1) + o) (rfl) (by omega) (by omega) dJ24_divadd_48 (fun H_2 locs h_new hch hS => ?_)
        have hX := hX.ch hch (by omega)
        have sz_H_2 := hch.1
        clear hch
        have hZ : gI z true .int H_2 zr L (upd (dI gg) ((t - 1) + o) (nI P)) := h_new
        replace hZ : gI z true .int H_2 zr L (dI (dup gg ((t - 1) + o) (P % 4294967296))) := by
          have q := hZ
          rw [dI_put] at q
          exact q
        have bd_3 : ∀ i, (dup gg ((t - 1) + o) (P % 4294967296)) i < 4294967296 := dup_lt hgg (Nat.mod_lt _ (by decide))
        refine lv_lload hx hb dJ24_divadd_49 (lv_at hl 0 rfl) ?_
        refine lv_bipush (v := 32) hx hb dJ24_divadd_51 (by decide) ?_
        refine lv_lushr hx hb dJ24_divadd_53 rfl ?_
        refine g_topl (v := lN (P / 4294967296)) (lN_shr32 (a := P) (by omega)) ?_
        refine lv_lstore hx hb dJ24_divadd_54 hl (by decide) rfl (fun ls hl => ?_)
        have hl : lv_has ls 9 [(4, .long (lN (P / 4294967296))), (7, .long (lN P)), (6, .int (nI (t - 1))), (0, .ref a), (1, .ref x), (2, .ref zr), (3, .int (nI o))] := hl
        refine lv_iinc (k := 2) (v := (iI (((t - 1 : Nat) : Int) - 1))) hx hb dJ24_divadd_56 hl rfl (by rw [nI_iI, show Int32.ofInt (-1) = iI (-1) from rfl, iI_add]; exact congrArg iI (by omega)) (by decide) rfl (fun ls hl => ?_)
        have hl : lv_has ls 9 [(6, .int (iI (((t - 1 : Nat) : Int) - 1))), (4, .long (lN (P / 4294967296))), (7, .long (lN P)), (0, .ref a), (1, .ref x), (2, .ref zr), (3, .int (nI o))] := hl
        refine lv_goto (tgt := 9) hx hb dJ24_divadd_59 (by decide) ?_
        exact ih_loopA (t - 1) (P / 4294967296) (dup gg ((t - 1) + o) (P % 4294967296)) (by omega) (by omega) bd_3 (fun i hi => by rw [dup_n (by omega)]; exact hgo i (by omega)) (by have q := da_A (P := P) (o := o) (e := gg) (g := g) (t := n - t) (by omega) (by rw [hP, hgo (t - 1 + o) (by omega), show t - 1 + o = o + t - 1 by omega]) hs; rw [show o + (t - 1) = o + t - 1 by omega, show n - (t - 1) = n - t + 1 by omega]; rw [show t - 1 + o = o + t - 1 by omega]; exact q) (by omega) H_2 _ hS hZ hX ls (lv_sub hl [0, 1, 3, 4, 5, 6] rfl)
  exact loopA _ n 0 g (Nat.le_refl _) (by decide) hg (fun _ _ => rfl) (by simp [seg_z]) (Nat.lt_succ_self _) H0 _ hS hZ hX ls (lv_sub hl [0, 1, 2, 3, 4, 5] rfl)
set_option maxHeartbeats 1000000 in
theorem m_uCmp (l : Launch) (z : State) (H0 : Heap) (a : Nat) (u v : Nat) (hu : u < 18446744073709551616) (hv : v < 18446744073709551616) : Met l yJ24_unsignedLongCompare (ws_ yJ24_unsignedLongCompare cJ24_unsignedLongCompare 5 (some .boolean)) { frames := 0, cells := 0, slots := 0, locals := 0 } (gPc z H0 [.ref a, .long (lN u), .long (lN v)]) (gPi H0 (fun r => r = gb (decide (v < u)))) 0 0 gno := by
  refine g_start (by decide +kernel) (Nat.le_of_ble_eq_true rfl) ?_
  intro p e s m below meth c ls hx hb hr hlocks hml hown hname hts hwm hl
  have hown : s.vm.findClass "java/math/MutableBigInteger" = some m.cls := hown
  have hal : z.vm.Alike s.vm := hwm.alike
  have hCF : CallFix p m c cJ24_unsignedLongCompare 5 s [.ref a, .long (lN u), .long (lN v)].toArray lw_all "java/math/MutableBigInteger" := ⟨hx, hb, hml, hown, hts⟩
  have hl : lv_has ls 5 [(0, .ref a), (1, .long (lN u)), (3, .long (lN v))] := hl
  refine lv_lload_n hx hb dJ24_unsignedLongCompare_0 rfl (lv_at hl 1 rfl) ?_
  refine lv_ldc2 (v := -9223372036854775808) hx hb hown (hts _ q1091) dJ24_unsignedLongCompare_1 ?_
  refine lv_ladd hx hb dJ24_unsignedLongCompare_4 ?_
  refine g_topl (v := (lI ((u : Int) - 9223372036854775808))) (lN_min) ?_
  refine lv_lload_n hx hb dJ24_unsignedLongCompare_5 rfl (lv_at hl 2 rfl) ?_
  refine lv_ldc2 (v := -9223372036854775808) hx hb hown (hts _ q1091) dJ24_unsignedLongCompare_6 ?_
  refine lv_ladd hx hb dJ24_unsignedLongCompare_9 ?_
  refine g_topl (v := (lI ((v : Int) - 9223372036854775808))) (lN_min) ?_
  refine W.lcmp hx hb dJ24_unsignedLongCompare_10 ?_
  refine lv_if_le (tgt := 18) hx hb dJ24_unsignedLongCompare_11 (by decide) (fun c_11 => ?_) (fun c_11 => ?_)
  · skip
    have c_11 := (ai_cle (a := ((u : Int) - 9223372036854775808)) (b := ((v : Int) - 9223372036854775808)) (rfl) (rfl) (by omega) (by omega) (by omega) (by omega)).mp c_11
    refine lv_iconst (v := 0) hx hb dJ24_unsignedLongCompare_18 (by decide) ?_
    refine g_zretP hx hb hr hlocks (rfl) ?_ dJ24_unsignedLongCompare_19
    rw [show decide (v < u) = false from decide_eq_false (by omega)]
    rfl
  · skip
    have c_11 := mt (ai_cle (a := ((u : Int) - 9223372036854775808)) (b := ((v : Int) - 9223372036854775808)) (rfl) (rfl) (by omega) (by omega) (by omega) (by omega)).mpr c_11
    refine lv_iconst (v := 1) hx hb dJ24_unsignedLongCompare_14 (by decide) ?_
    refine lv_goto (tgt := 19) hx hb dJ24_unsignedLongCompare_15 (by decide) ?_
    refine g_zretP hx hb hr hlocks (rfl) ?_ dJ24_unsignedLongCompare_19
    rw [show decide (v < u) = true from decide_eq_true (by omega)]
    rfl
