/-! ## walks (written by tools) -/
set_option maxRecDepth 100000
def dkwJ22_abs_0 : List UInt8 := [42, 180, 0, 32, 155, 0, 7, 42, 167, 0, 7, 42, 182, 1, 138, 176]
abbrev dktJ22_abs_0 : List UInt8 := dkwJ22_abs_0 ++ []
theorem dksJ22_abs_0 : cJ22_abs.data.toList.drop 0 = dktJ22_abs_0 := by decide +kernel
theorem dJ22_abs_0 : decode cJ22_abs 0 = .ok (.aload_n 0, 1) := dk_42 (dk_at dksJ22_abs_0 0 rfl rfl)
theorem dJ22_abs_1 : decode cJ22_abs 1 = .ok (.getfield 32, 3) := dk_180 0 32 (dk_at dksJ22_abs_0 1 rfl rfl)
theorem dJ22_abs_4 : decode cJ22_abs 4 = .ok (.ifCond .lt 7, 3) := dk_155 0 7 (dk_at dksJ22_abs_0 4 rfl rfl)
theorem dJ22_abs_7 : decode cJ22_abs 7 = .ok (.aload_n 0, 1) := dk_42 (dk_at dksJ22_abs_0 7 rfl rfl)
theorem dJ22_abs_8 : decode cJ22_abs 8 = .ok (.goto 7, 3) := dk_167 0 7 (dk_at dksJ22_abs_0 8 rfl rfl)
theorem dJ22_abs_11 : decode cJ22_abs 11 = .ok (.aload_n 0, 1) := dk_42 (dk_at dksJ22_abs_0 11 rfl rfl)
theorem dJ22_abs_12 : decode cJ22_abs 12 = .ok (.invokevirtual 394, 3) := dk_182 1 138 (dk_at dksJ22_abs_0 12 rfl rfl)
theorem dJ22_abs_15 : decode cJ22_abs 15 = .ok (.areturn, 1) := dk_176 (dk_at dksJ22_abs_0 15 rfl rfl)
theorem dJ22_signum_0 : decode cJ22_signum 0 = .ok (.aload_n 0, 1) := by decide +kernel
theorem dJ22_signum_1 : decode cJ22_signum 1 = .ok (.getfield 32, 3) := by decide +kernel
theorem dJ22_signum_4 : decode cJ22_signum 4 = .ok (.ireturn, 1) := by decide +kernel
def dkwJ22_signInt_0 : List UInt8 := [42, 180, 0, 32, 156, 0, 7, 2, 167, 0, 4, 3, 172]
abbrev dktJ22_signInt_0 : List UInt8 := dkwJ22_signInt_0 ++ []
theorem dksJ22_signInt_0 : cJ22_signInt.data.toList.drop 0 = dktJ22_signInt_0 := by decide +kernel
theorem dJ22_signInt_0 : decode cJ22_signInt 0 = .ok (.aload_n 0, 1) := dk_42 (dk_at dksJ22_signInt_0 0 rfl rfl)
theorem dJ22_signInt_1 : decode cJ22_signInt 1 = .ok (.getfield 32, 3) := dk_180 0 32 (dk_at dksJ22_signInt_0 1 rfl rfl)
theorem dJ22_signInt_4 : decode cJ22_signInt 4 = .ok (.ifCond .ge 7, 3) := dk_156 0 7 (dk_at dksJ22_signInt_0 4 rfl rfl)
theorem dJ22_signInt_7 : decode cJ22_signInt 7 = .ok (.iconst (-1), 1) := dk_2 (dk_at dksJ22_signInt_0 7 rfl rfl)
theorem dJ22_signInt_8 : decode cJ22_signInt 8 = .ok (.goto 4, 3) := dk_167 0 4 (dk_at dksJ22_signInt_0 8 rfl rfl)
theorem dJ22_signInt_11 : decode cJ22_signInt 11 = .ok (.iconst 0, 1) := dk_3 (dk_at dksJ22_signInt_0 11 rfl rfl)
theorem dJ22_signInt_12 : decode cJ22_signInt 12 = .ok (.ireturn, 1) := dk_172 (dk_at dksJ22_signInt_0 12 rfl rfl)
def dkwJ22_bitLength_5 : List UInt8 := [100, 167, 0, 5, 21, 4, 60, 167, 0, 6, 21, 4, 60, 42, 27, 4, 96, 181, 2, 235, 27, 172]
abbrev dktJ22_bitLength_5 : List UInt8 := dkwJ22_bitLength_5 ++ []
def dkwJ22_bitLength_4 : List UInt8 := [154, 0, 7, 4, 167, 0, 4, 3, 54, 5, 132, 6, 1, 167, 255, 225, 21, 5, 153, 0, 10, 21, 4, 4]
abbrev dktJ22_bitLength_4 : List UInt8 := dkwJ22_bitLength_4 ++ dktJ22_bitLength_5
def dkwJ22_bitLength_3 : List UInt8 := [54, 5, 4, 54, 6, 21, 6, 29, 162, 0, 31, 21, 5, 153, 0, 26, 42, 180, 0, 28, 21, 6, 46]
abbrev dktJ22_bitLength_3 : List UInt8 := dkwJ22_bitLength_3 ++ dktJ22_bitLength_4
def dkwJ22_bitLength_2 : List UInt8 := [180, 0, 32, 156, 0, 78, 42, 180, 0, 28, 3, 46, 184, 1, 167, 4, 160, 0, 7, 4, 167, 0, 4, 3]
abbrev dktJ22_bitLength_2 : List UInt8 := dkwJ22_bitLength_2 ++ dktJ22_bitLength_3
def dkwJ22_bitLength_1 : List UInt8 := [3, 60, 167, 0, 105, 29, 4, 100, 8, 120, 42, 180, 0, 28, 3, 46, 184, 2, 93, 96, 54, 4, 42]
abbrev dktJ22_bitLength_1 : List UInt8 := dkwJ22_bitLength_1 ++ dktJ22_bitLength_2
def dkwJ22_bitLength_0 : List UInt8 := [42, 180, 2, 235, 4, 100, 60, 27, 2, 160, 0, 129, 42, 180, 0, 28, 77, 44, 190, 62, 29, 154, 0, 8]
abbrev dktJ22_bitLength_0 : List UInt8 := dkwJ22_bitLength_0 ++ dktJ22_bitLength_1
theorem dksJ22_bitLength_0 : cJ22_bitLength.data.toList.drop 0 = dktJ22_bitLength_0 := by decide +kernel
theorem dksJ22_bitLength_1 : cJ22_bitLength.data.toList.drop 24 = dktJ22_bitLength_1 := dk_seg dksJ22_bitLength_0 24 rfl rfl
theorem dksJ22_bitLength_2 : cJ22_bitLength.data.toList.drop 47 = dktJ22_bitLength_2 := dk_seg dksJ22_bitLength_1 23 rfl rfl
theorem dksJ22_bitLength_3 : cJ22_bitLength.data.toList.drop 71 = dktJ22_bitLength_3 := dk_seg dksJ22_bitLength_2 24 rfl rfl
theorem dksJ22_bitLength_4 : cJ22_bitLength.data.toList.drop 94 = dktJ22_bitLength_4 := dk_seg dksJ22_bitLength_3 23 rfl rfl
theorem dksJ22_bitLength_5 : cJ22_bitLength.data.toList.drop 118 = dktJ22_bitLength_5 := dk_seg dksJ22_bitLength_4 24 rfl rfl
theorem dJ22_bitLength_0 : decode cJ22_bitLength 0 = .ok (.aload_n 0, 1) := dk_42 (dk_at dksJ22_bitLength_0 0 rfl rfl)
theorem dJ22_bitLength_1 : decode cJ22_bitLength 1 = .ok (.getfield 747, 3) := dk_180 2 235 (dk_at dksJ22_bitLength_0 1 rfl rfl)
theorem dJ22_bitLength_4 : decode cJ22_bitLength 4 = .ok (.iconst 1, 1) := dk_4 (dk_at dksJ22_bitLength_0 4 rfl rfl)
theorem dJ22_bitLength_5 : decode cJ22_bitLength 5 = .ok (.isub, 1) := dk_100 (dk_at dksJ22_bitLength_0 5 rfl rfl)
theorem dJ22_bitLength_6 : decode cJ22_bitLength 6 = .ok (.istore_n 1, 1) := dk_60 (dk_at dksJ22_bitLength_0 6 rfl rfl)
theorem dJ22_bitLength_7 : decode cJ22_bitLength 7 = .ok (.iload_n 1, 1) := dk_27 (dk_at dksJ22_bitLength_0 7 rfl rfl)
theorem dJ22_bitLength_8 : decode cJ22_bitLength 8 = .ok (.iconst (-1), 1) := dk_2 (dk_at dksJ22_bitLength_0 8 rfl rfl)
theorem dJ22_bitLength_9 : decode cJ22_bitLength 9 = .ok (.if_icmp .ne 129, 3) := dk_160 0 129 (dk_at dksJ22_bitLength_0 9 rfl rfl)
theorem dJ22_bitLength_12 : decode cJ22_bitLength 12 = .ok (.aload_n 0, 1) := dk_42 (dk_at dksJ22_bitLength_0 12 rfl rfl)
theorem dJ22_bitLength_13 : decode cJ22_bitLength 13 = .ok (.getfield 28, 3) := dk_180 0 28 (dk_at dksJ22_bitLength_0 13 rfl rfl)
theorem dJ22_bitLength_16 : decode cJ22_bitLength 16 = .ok (.astore_n 2, 1) := dk_77 (dk_at dksJ22_bitLength_0 16 rfl rfl)
theorem dJ22_bitLength_17 : decode cJ22_bitLength 17 = .ok (.aload_n 2, 1) := dk_44 (dk_at dksJ22_bitLength_0 17 rfl rfl)
theorem dJ22_bitLength_18 : decode cJ22_bitLength 18 = .ok (.arraylength, 1) := dk_190 (dk_at dksJ22_bitLength_0 18 rfl rfl)
theorem dJ22_bitLength_19 : decode cJ22_bitLength 19 = .ok (.istore_n 3, 1) := dk_62 (dk_at dksJ22_bitLength_0 19 rfl rfl)
theorem dJ22_bitLength_20 : decode cJ22_bitLength 20 = .ok (.iload_n 3, 1) := dk_29 (dk_at dksJ22_bitLength_0 20 rfl rfl)
theorem dJ22_bitLength_21 : decode cJ22_bitLength 21 = .ok (.ifCond .ne 8, 3) := dk_154 0 8 (dk_at dksJ22_bitLength_0 21 rfl rfl)
theorem dJ22_bitLength_24 : decode cJ22_bitLength 24 = .ok (.iconst 0, 1) := dk_3 (dk_at dksJ22_bitLength_1 0 rfl rfl)
theorem dJ22_bitLength_25 : decode cJ22_bitLength 25 = .ok (.istore_n 1, 1) := dk_60 (dk_at dksJ22_bitLength_1 1 rfl rfl)
theorem dJ22_bitLength_26 : decode cJ22_bitLength 26 = .ok (.goto 105, 3) := dk_167 0 105 (dk_at dksJ22_bitLength_1 2 rfl rfl)
theorem dJ22_bitLength_29 : decode cJ22_bitLength 29 = .ok (.iload_n 3, 1) := dk_29 (dk_at dksJ22_bitLength_1 5 rfl rfl)
theorem dJ22_bitLength_30 : decode cJ22_bitLength 30 = .ok (.iconst 1, 1) := dk_4 (dk_at dksJ22_bitLength_1 6 rfl rfl)
theorem dJ22_bitLength_31 : decode cJ22_bitLength 31 = .ok (.isub, 1) := dk_100 (dk_at dksJ22_bitLength_1 7 rfl rfl)
theorem dJ22_bitLength_32 : decode cJ22_bitLength 32 = .ok (.iconst 5, 1) := dk_8 (dk_at dksJ22_bitLength_1 8 rfl rfl)
theorem dJ22_bitLength_33 : decode cJ22_bitLength 33 = .ok (.ishl, 1) := dk_120 (dk_at dksJ22_bitLength_1 9 rfl rfl)
theorem dJ22_bitLength_34 : decode cJ22_bitLength 34 = .ok (.aload_n 0, 1) := dk_42 (dk_at dksJ22_bitLength_1 10 rfl rfl)
theorem dJ22_bitLength_35 : decode cJ22_bitLength 35 = .ok (.getfield 28, 3) := dk_180 0 28 (dk_at dksJ22_bitLength_1 11 rfl rfl)
theorem dJ22_bitLength_38 : decode cJ22_bitLength 38 = .ok (.iconst 0, 1) := dk_3 (dk_at dksJ22_bitLength_1 14 rfl rfl)
theorem dJ22_bitLength_39 : decode cJ22_bitLength 39 = .ok (.iaload, 1) := dk_46 (dk_at dksJ22_bitLength_1 15 rfl rfl)
theorem dJ22_bitLength_40 : decode cJ22_bitLength 40 = .ok (.invokestatic 605, 3) := dk_184 2 93 (dk_at dksJ22_bitLength_1 16 rfl rfl)
theorem dJ22_bitLength_43 : decode cJ22_bitLength 43 = .ok (.iadd, 1) := dk_96 (dk_at dksJ22_bitLength_1 19 rfl rfl)
theorem dJ22_bitLength_44 : decode cJ22_bitLength 44 = .ok (.istore 4, 2) := dk_54 4 (dk_at dksJ22_bitLength_1 20 rfl rfl)
theorem dJ22_bitLength_46 : decode cJ22_bitLength 46 = .ok (.aload_n 0, 1) := dk_42 (dk_at dksJ22_bitLength_1 22 rfl rfl)
theorem dJ22_bitLength_47 : decode cJ22_bitLength 47 = .ok (.getfield 32, 3) := dk_180 0 32 (dk_at dksJ22_bitLength_2 0 rfl rfl)
theorem dJ22_bitLength_50 : decode cJ22_bitLength 50 = .ok (.ifCond .ge 78, 3) := dk_156 0 78 (dk_at dksJ22_bitLength_2 3 rfl rfl)
theorem dJ22_bitLength_53 : decode cJ22_bitLength 53 = .ok (.aload_n 0, 1) := dk_42 (dk_at dksJ22_bitLength_2 6 rfl rfl)
theorem dJ22_bitLength_54 : decode cJ22_bitLength 54 = .ok (.getfield 28, 3) := dk_180 0 28 (dk_at dksJ22_bitLength_2 7 rfl rfl)
theorem dJ22_bitLength_57 : decode cJ22_bitLength 57 = .ok (.iconst 0, 1) := dk_3 (dk_at dksJ22_bitLength_2 10 rfl rfl)
theorem dJ22_bitLength_58 : decode cJ22_bitLength 58 = .ok (.iaload, 1) := dk_46 (dk_at dksJ22_bitLength_2 11 rfl rfl)
theorem dJ22_bitLength_59 : decode cJ22_bitLength 59 = .ok (.invokestatic 423, 3) := dk_184 1 167 (dk_at dksJ22_bitLength_2 12 rfl rfl)
theorem dJ22_bitLength_62 : decode cJ22_bitLength 62 = .ok (.iconst 1, 1) := dk_4 (dk_at dksJ22_bitLength_2 15 rfl rfl)
theorem dJ22_bitLength_63 : decode cJ22_bitLength 63 = .ok (.if_icmp .ne 7, 3) := dk_160 0 7 (dk_at dksJ22_bitLength_2 16 rfl rfl)
theorem dJ22_bitLength_66 : decode cJ22_bitLength 66 = .ok (.iconst 1, 1) := dk_4 (dk_at dksJ22_bitLength_2 19 rfl rfl)
theorem dJ22_bitLength_67 : decode cJ22_bitLength 67 = .ok (.goto 4, 3) := dk_167 0 4 (dk_at dksJ22_bitLength_2 20 rfl rfl)
theorem dJ22_bitLength_70 : decode cJ22_bitLength 70 = .ok (.iconst 0, 1) := dk_3 (dk_at dksJ22_bitLength_2 23 rfl rfl)
theorem dJ22_bitLength_71 : decode cJ22_bitLength 71 = .ok (.istore 5, 2) := dk_54 5 (dk_at dksJ22_bitLength_3 0 rfl rfl)
theorem dJ22_bitLength_73 : decode cJ22_bitLength 73 = .ok (.iconst 1, 1) := dk_4 (dk_at dksJ22_bitLength_3 2 rfl rfl)
theorem dJ22_bitLength_74 : decode cJ22_bitLength 74 = .ok (.istore 6, 2) := dk_54 6 (dk_at dksJ22_bitLength_3 3 rfl rfl)
theorem dJ22_bitLength_76 : decode cJ22_bitLength 76 = .ok (.iload 6, 2) := dk_21 6 (dk_at dksJ22_bitLength_3 5 rfl rfl)
theorem dJ22_bitLength_78 : decode cJ22_bitLength 78 = .ok (.iload_n 3, 1) := dk_29 (dk_at dksJ22_bitLength_3 7 rfl rfl)
theorem dJ22_bitLength_79 : decode cJ22_bitLength 79 = .ok (.if_icmp .ge 31, 3) := dk_162 0 31 (dk_at dksJ22_bitLength_3 8 rfl rfl)
theorem dJ22_bitLength_82 : decode cJ22_bitLength 82 = .ok (.iload 5, 2) := dk_21 5 (dk_at dksJ22_bitLength_3 11 rfl rfl)
theorem dJ22_bitLength_84 : decode cJ22_bitLength 84 = .ok (.ifCond .eq 26, 3) := dk_153 0 26 (dk_at dksJ22_bitLength_3 13 rfl rfl)
theorem dJ22_bitLength_87 : decode cJ22_bitLength 87 = .ok (.aload_n 0, 1) := dk_42 (dk_at dksJ22_bitLength_3 16 rfl rfl)
theorem dJ22_bitLength_88 : decode cJ22_bitLength 88 = .ok (.getfield 28, 3) := dk_180 0 28 (dk_at dksJ22_bitLength_3 17 rfl rfl)
theorem dJ22_bitLength_91 : decode cJ22_bitLength 91 = .ok (.iload 6, 2) := dk_21 6 (dk_at dksJ22_bitLength_3 20 rfl rfl)
theorem dJ22_bitLength_93 : decode cJ22_bitLength 93 = .ok (.iaload, 1) := dk_46 (dk_at dksJ22_bitLength_3 22 rfl rfl)
theorem dJ22_bitLength_94 : decode cJ22_bitLength 94 = .ok (.ifCond .ne 7, 3) := dk_154 0 7 (dk_at dksJ22_bitLength_4 0 rfl rfl)
theorem dJ22_bitLength_97 : decode cJ22_bitLength 97 = .ok (.iconst 1, 1) := dk_4 (dk_at dksJ22_bitLength_4 3 rfl rfl)
theorem dJ22_bitLength_98 : decode cJ22_bitLength 98 = .ok (.goto 4, 3) := dk_167 0 4 (dk_at dksJ22_bitLength_4 4 rfl rfl)
theorem dJ22_bitLength_101 : decode cJ22_bitLength 101 = .ok (.iconst 0, 1) := dk_3 (dk_at dksJ22_bitLength_4 7 rfl rfl)
theorem dJ22_bitLength_102 : decode cJ22_bitLength 102 = .ok (.istore 5, 2) := dk_54 5 (dk_at dksJ22_bitLength_4 8 rfl rfl)
theorem dJ22_bitLength_104 : decode cJ22_bitLength 104 = .ok (.iinc 6 1, 3) := dk_132 6 1 (dk_at dksJ22_bitLength_4 10 rfl rfl)
theorem dJ22_bitLength_107 : decode cJ22_bitLength 107 = .ok (.goto (-31), 3) := dk_167 255 225 (dk_at dksJ22_bitLength_4 13 rfl rfl)
theorem dJ22_bitLength_110 : decode cJ22_bitLength 110 = .ok (.iload 5, 2) := dk_21 5 (dk_at dksJ22_bitLength_4 16 rfl rfl)
theorem dJ22_bitLength_112 : decode cJ22_bitLength 112 = .ok (.ifCond .eq 10, 3) := dk_153 0 10 (dk_at dksJ22_bitLength_4 18 rfl rfl)
theorem dJ22_bitLength_115 : decode cJ22_bitLength 115 = .ok (.iload 4, 2) := dk_21 4 (dk_at dksJ22_bitLength_4 21 rfl rfl)
theorem dJ22_bitLength_117 : decode cJ22_bitLength 117 = .ok (.iconst 1, 1) := dk_4 (dk_at dksJ22_bitLength_4 23 rfl rfl)
theorem dJ22_bitLength_118 : decode cJ22_bitLength 118 = .ok (.isub, 1) := dk_100 (dk_at dksJ22_bitLength_5 0 rfl rfl)
theorem dJ22_bitLength_119 : decode cJ22_bitLength 119 = .ok (.goto 5, 3) := dk_167 0 5 (dk_at dksJ22_bitLength_5 1 rfl rfl)
theorem dJ22_bitLength_122 : decode cJ22_bitLength 122 = .ok (.iload 4, 2) := dk_21 4 (dk_at dksJ22_bitLength_5 4 rfl rfl)
theorem dJ22_bitLength_124 : decode cJ22_bitLength 124 = .ok (.istore_n 1, 1) := dk_60 (dk_at dksJ22_bitLength_5 6 rfl rfl)
theorem dJ22_bitLength_125 : decode cJ22_bitLength 125 = .ok (.goto 6, 3) := dk_167 0 6 (dk_at dksJ22_bitLength_5 7 rfl rfl)
theorem dJ22_bitLength_128 : decode cJ22_bitLength 128 = .ok (.iload 4, 2) := dk_21 4 (dk_at dksJ22_bitLength_5 10 rfl rfl)
theorem dJ22_bitLength_130 : decode cJ22_bitLength 130 = .ok (.istore_n 1, 1) := dk_60 (dk_at dksJ22_bitLength_5 12 rfl rfl)
theorem dJ22_bitLength_131 : decode cJ22_bitLength 131 = .ok (.aload_n 0, 1) := dk_42 (dk_at dksJ22_bitLength_5 13 rfl rfl)
theorem dJ22_bitLength_132 : decode cJ22_bitLength 132 = .ok (.iload_n 1, 1) := dk_27 (dk_at dksJ22_bitLength_5 14 rfl rfl)
theorem dJ22_bitLength_133 : decode cJ22_bitLength 133 = .ok (.iconst 1, 1) := dk_4 (dk_at dksJ22_bitLength_5 15 rfl rfl)
theorem dJ22_bitLength_134 : decode cJ22_bitLength 134 = .ok (.iadd, 1) := dk_96 (dk_at dksJ22_bitLength_5 16 rfl rfl)
theorem dJ22_bitLength_135 : decode cJ22_bitLength 135 = .ok (.putfield 747, 3) := dk_181 2 235 (dk_at dksJ22_bitLength_5 17 rfl rfl)
theorem dJ22_bitLength_138 : decode cJ22_bitLength 138 = .ok (.iload_n 1, 1) := dk_27 (dk_at dksJ22_bitLength_5 20 rfl rfl)
theorem dJ22_bitLength_139 : decode cJ22_bitLength 139 = .ok (.ireturn, 1) := dk_172 (dk_at dksJ22_bitLength_5 21 rfl rfl)
def dkwJ22_getLowestSetBit_2 : List UInt8 := [27, 28, 8, 120, 29, 184, 1, 170, 96, 96, 60, 42, 27, 5, 96, 181, 2, 232, 27, 172]
abbrev dktJ22_getLowestSetBit_2 : List UInt8 := dkwJ22_getLowestSetBit_2 ++ []
def dkwJ22_getLowestSetBit_1 : List UInt8 := [132, 1, 255, 167, 0, 32, 3, 61, 42, 28, 182, 2, 224, 89, 62, 154, 0, 9, 132, 2, 1, 167, 255, 243]
abbrev dktJ22_getLowestSetBit_1 : List UInt8 := dkwJ22_getLowestSetBit_1 ++ dktJ22_getLowestSetBit_2
def dkwJ22_getLowestSetBit_0 : List UInt8 := [42, 180, 2, 232, 5, 100, 60, 27, 16, 254, 160, 0, 54, 3, 60, 42, 180, 0, 32, 154, 0, 9]
abbrev dktJ22_getLowestSetBit_0 : List UInt8 := dkwJ22_getLowestSetBit_0 ++ dktJ22_getLowestSetBit_1
theorem dksJ22_getLowestSetBit_0 : cJ22_getLowestSetBit.data.toList.drop 0 = dktJ22_getLowestSetBit_0 := by decide +kernel
theorem dksJ22_getLowestSetBit_1 : cJ22_getLowestSetBit.data.toList.drop 22 = dktJ22_getLowestSetBit_1 := dk_seg dksJ22_getLowestSetBit_0 22 rfl rfl
theorem dksJ22_getLowestSetBit_2 : cJ22_getLowestSetBit.data.toList.drop 46 = dktJ22_getLowestSetBit_2 := dk_seg dksJ22_getLowestSetBit_1 24 rfl rfl
theorem dJ22_getLowestSetBit_0 : decode cJ22_getLowestSetBit 0 = .ok (.aload_n 0, 1) := dk_42 (dk_at dksJ22_getLowestSetBit_0 0 rfl rfl)
theorem dJ22_getLowestSetBit_1 : decode cJ22_getLowestSetBit 1 = .ok (.getfield 744, 3) := dk_180 2 232 (dk_at dksJ22_getLowestSetBit_0 1 rfl rfl)
theorem dJ22_getLowestSetBit_4 : decode cJ22_getLowestSetBit 4 = .ok (.iconst 2, 1) := dk_5 (dk_at dksJ22_getLowestSetBit_0 4 rfl rfl)
theorem dJ22_getLowestSetBit_5 : decode cJ22_getLowestSetBit 5 = .ok (.isub, 1) := dk_100 (dk_at dksJ22_getLowestSetBit_0 5 rfl rfl)
theorem dJ22_getLowestSetBit_6 : decode cJ22_getLowestSetBit 6 = .ok (.istore_n 1, 1) := dk_60 (dk_at dksJ22_getLowestSetBit_0 6 rfl rfl)
theorem dJ22_getLowestSetBit_7 : decode cJ22_getLowestSetBit 7 = .ok (.iload_n 1, 1) := dk_27 (dk_at dksJ22_getLowestSetBit_0 7 rfl rfl)
theorem dJ22_getLowestSetBit_8 : decode cJ22_getLowestSetBit 8 = .ok (.bipush (-2), 2) := dk_16 254 (dk_at dksJ22_getLowestSetBit_0 8 rfl rfl)
theorem dJ22_getLowestSetBit_10 : decode cJ22_getLowestSetBit 10 = .ok (.if_icmp .ne 54, 3) := dk_160 0 54 (dk_at dksJ22_getLowestSetBit_0 10 rfl rfl)
theorem dJ22_getLowestSetBit_13 : decode cJ22_getLowestSetBit 13 = .ok (.iconst 0, 1) := dk_3 (dk_at dksJ22_getLowestSetBit_0 13 rfl rfl)
theorem dJ22_getLowestSetBit_14 : decode cJ22_getLowestSetBit 14 = .ok (.istore_n 1, 1) := dk_60 (dk_at dksJ22_getLowestSetBit_0 14 rfl rfl)
theorem dJ22_getLowestSetBit_15 : decode cJ22_getLowestSetBit 15 = .ok (.aload_n 0, 1) := dk_42 (dk_at dksJ22_getLowestSetBit_0 15 rfl rfl)
theorem dJ22_getLowestSetBit_16 : decode cJ22_getLowestSetBit 16 = .ok (.getfield 32, 3) := dk_180 0 32 (dk_at dksJ22_getLowestSetBit_0 16 rfl rfl)
theorem dJ22_getLowestSetBit_19 : decode cJ22_getLowestSetBit 19 = .ok (.ifCond .ne 9, 3) := dk_154 0 9 (dk_at dksJ22_getLowestSetBit_0 19 rfl rfl)
theorem dJ22_getLowestSetBit_22 : decode cJ22_getLowestSetBit 22 = .ok (.iinc 1 (-1), 3) := dk_132 1 255 (dk_at dksJ22_getLowestSetBit_1 0 rfl rfl)
theorem dJ22_getLowestSetBit_25 : decode cJ22_getLowestSetBit 25 = .ok (.goto 32, 3) := dk_167 0 32 (dk_at dksJ22_getLowestSetBit_1 3 rfl rfl)
theorem dJ22_getLowestSetBit_28 : decode cJ22_getLowestSetBit 28 = .ok (.iconst 0, 1) := dk_3 (dk_at dksJ22_getLowestSetBit_1 6 rfl rfl)
theorem dJ22_getLowestSetBit_29 : decode cJ22_getLowestSetBit 29 = .ok (.istore_n 2, 1) := dk_61 (dk_at dksJ22_getLowestSetBit_1 7 rfl rfl)
theorem dJ22_getLowestSetBit_30 : decode cJ22_getLowestSetBit 30 = .ok (.aload_n 0, 1) := dk_42 (dk_at dksJ22_getLowestSetBit_1 8 rfl rfl)
theorem dJ22_getLowestSetBit_31 : decode cJ22_getLowestSetBit 31 = .ok (.iload_n 2, 1) := dk_28 (dk_at dksJ22_getLowestSetBit_1 9 rfl rfl)
theorem dJ22_getLowestSetBit_32 : decode cJ22_getLowestSetBit 32 = .ok (.invokevirtual 736, 3) := dk_182 2 224 (dk_at dksJ22_getLowestSetBit_1 10 rfl rfl)
theorem dJ22_getLowestSetBit_35 : decode cJ22_getLowestSetBit 35 = .ok (.dup, 1) := dk_89 (dk_at dksJ22_getLowestSetBit_1 13 rfl rfl)
theorem dJ22_getLowestSetBit_36 : decode cJ22_getLowestSetBit 36 = .ok (.istore_n 3, 1) := dk_62 (dk_at dksJ22_getLowestSetBit_1 14 rfl rfl)
theorem dJ22_getLowestSetBit_37 : decode cJ22_getLowestSetBit 37 = .ok (.ifCond .ne 9, 3) := dk_154 0 9 (dk_at dksJ22_getLowestSetBit_1 15 rfl rfl)
theorem dJ22_getLowestSetBit_40 : decode cJ22_getLowestSetBit 40 = .ok (.iinc 2 1, 3) := dk_132 2 1 (dk_at dksJ22_getLowestSetBit_1 18 rfl rfl)
theorem dJ22_getLowestSetBit_43 : decode cJ22_getLowestSetBit 43 = .ok (.goto (-13), 3) := dk_167 255 243 (dk_at dksJ22_getLowestSetBit_1 21 rfl rfl)
theorem dJ22_getLowestSetBit_46 : decode cJ22_getLowestSetBit 46 = .ok (.iload_n 1, 1) := dk_27 (dk_at dksJ22_getLowestSetBit_2 0 rfl rfl)
theorem dJ22_getLowestSetBit_47 : decode cJ22_getLowestSetBit 47 = .ok (.iload_n 2, 1) := dk_28 (dk_at dksJ22_getLowestSetBit_2 1 rfl rfl)
theorem dJ22_getLowestSetBit_48 : decode cJ22_getLowestSetBit 48 = .ok (.iconst 5, 1) := dk_8 (dk_at dksJ22_getLowestSetBit_2 2 rfl rfl)
theorem dJ22_getLowestSetBit_49 : decode cJ22_getLowestSetBit 49 = .ok (.ishl, 1) := dk_120 (dk_at dksJ22_getLowestSetBit_2 3 rfl rfl)
theorem dJ22_getLowestSetBit_50 : decode cJ22_getLowestSetBit 50 = .ok (.iload_n 3, 1) := dk_29 (dk_at dksJ22_getLowestSetBit_2 4 rfl rfl)
theorem dJ22_getLowestSetBit_51 : decode cJ22_getLowestSetBit 51 = .ok (.invokestatic 426, 3) := dk_184 1 170 (dk_at dksJ22_getLowestSetBit_2 5 rfl rfl)
theorem dJ22_getLowestSetBit_54 : decode cJ22_getLowestSetBit 54 = .ok (.iadd, 1) := dk_96 (dk_at dksJ22_getLowestSetBit_2 8 rfl rfl)
theorem dJ22_getLowestSetBit_55 : decode cJ22_getLowestSetBit 55 = .ok (.iadd, 1) := dk_96 (dk_at dksJ22_getLowestSetBit_2 9 rfl rfl)
theorem dJ22_getLowestSetBit_56 : decode cJ22_getLowestSetBit 56 = .ok (.istore_n 1, 1) := dk_60 (dk_at dksJ22_getLowestSetBit_2 10 rfl rfl)
theorem dJ22_getLowestSetBit_57 : decode cJ22_getLowestSetBit 57 = .ok (.aload_n 0, 1) := dk_42 (dk_at dksJ22_getLowestSetBit_2 11 rfl rfl)
theorem dJ22_getLowestSetBit_58 : decode cJ22_getLowestSetBit 58 = .ok (.iload_n 1, 1) := dk_27 (dk_at dksJ22_getLowestSetBit_2 12 rfl rfl)
theorem dJ22_getLowestSetBit_59 : decode cJ22_getLowestSetBit 59 = .ok (.iconst 2, 1) := dk_5 (dk_at dksJ22_getLowestSetBit_2 13 rfl rfl)
theorem dJ22_getLowestSetBit_60 : decode cJ22_getLowestSetBit 60 = .ok (.iadd, 1) := dk_96 (dk_at dksJ22_getLowestSetBit_2 14 rfl rfl)
theorem dJ22_getLowestSetBit_61 : decode cJ22_getLowestSetBit 61 = .ok (.putfield 744, 3) := dk_181 2 232 (dk_at dksJ22_getLowestSetBit_2 15 rfl rfl)
theorem dJ22_getLowestSetBit_64 : decode cJ22_getLowestSetBit 64 = .ok (.iload_n 1, 1) := dk_27 (dk_at dksJ22_getLowestSetBit_2 18 rfl rfl)
theorem dJ22_getLowestSetBit_65 : decode cJ22_getLowestSetBit 65 = .ok (.ireturn, 1) := dk_172 (dk_at dksJ22_getLowestSetBit_2 19 rfl rfl)
def dkwJ22_getInt_2 : List UInt8 := [182, 3, 95, 163, 0, 8, 28, 116, 167, 0, 6, 28, 2, 130, 172]
abbrev dktJ22_getInt_2 : List UInt8 := dkwJ22_getInt_2 ++ []
def dkwJ22_getInt_1 : List UInt8 := [42, 180, 0, 28, 190, 27, 100, 4, 100, 46, 61, 42, 180, 0, 32, 155, 0, 7, 28, 167, 0, 19, 27, 42]
abbrev dktJ22_getInt_1 : List UInt8 := dkwJ22_getInt_1 ++ dktJ22_getInt_2
def dkwJ22_getInt_0 : List UInt8 := [27, 156, 0, 5, 3, 172, 27, 42, 180, 0, 28, 190, 161, 0, 8, 42, 182, 3, 92, 172, 42, 180, 0, 28]
abbrev dktJ22_getInt_0 : List UInt8 := dkwJ22_getInt_0 ++ dktJ22_getInt_1
theorem dksJ22_getInt_0 : cJ22_getInt.data.toList.drop 0 = dktJ22_getInt_0 := by decide +kernel
theorem dksJ22_getInt_1 : cJ22_getInt.data.toList.drop 24 = dktJ22_getInt_1 := dk_seg dksJ22_getInt_0 24 rfl rfl
theorem dksJ22_getInt_2 : cJ22_getInt.data.toList.drop 48 = dktJ22_getInt_2 := dk_seg dksJ22_getInt_1 24 rfl rfl
theorem dJ22_getInt_0 : decode cJ22_getInt 0 = .ok (.iload_n 1, 1) := dk_27 (dk_at dksJ22_getInt_0 0 rfl rfl)
theorem dJ22_getInt_1 : decode cJ22_getInt 1 = .ok (.ifCond .ge 5, 3) := dk_156 0 5 (dk_at dksJ22_getInt_0 1 rfl rfl)
theorem dJ22_getInt_4 : decode cJ22_getInt 4 = .ok (.iconst 0, 1) := dk_3 (dk_at dksJ22_getInt_0 4 rfl rfl)
theorem dJ22_getInt_5 : decode cJ22_getInt 5 = .ok (.ireturn, 1) := dk_172 (dk_at dksJ22_getInt_0 5 rfl rfl)
theorem dJ22_getInt_6 : decode cJ22_getInt 6 = .ok (.iload_n 1, 1) := dk_27 (dk_at dksJ22_getInt_0 6 rfl rfl)
theorem dJ22_getInt_7 : decode cJ22_getInt 7 = .ok (.aload_n 0, 1) := dk_42 (dk_at dksJ22_getInt_0 7 rfl rfl)
theorem dJ22_getInt_8 : decode cJ22_getInt 8 = .ok (.getfield 28, 3) := dk_180 0 28 (dk_at dksJ22_getInt_0 8 rfl rfl)
theorem dJ22_getInt_11 : decode cJ22_getInt 11 = .ok (.arraylength, 1) := dk_190 (dk_at dksJ22_getInt_0 11 rfl rfl)
theorem dJ22_getInt_12 : decode cJ22_getInt 12 = .ok (.if_icmp .lt 8, 3) := dk_161 0 8 (dk_at dksJ22_getInt_0 12 rfl rfl)
theorem dJ22_getInt_15 : decode cJ22_getInt 15 = .ok (.aload_n 0, 1) := dk_42 (dk_at dksJ22_getInt_0 15 rfl rfl)
theorem dJ22_getInt_16 : decode cJ22_getInt 16 = .ok (.invokevirtual 860, 3) := dk_182 3 92 (dk_at dksJ22_getInt_0 16 rfl rfl)
theorem dJ22_getInt_19 : decode cJ22_getInt 19 = .ok (.ireturn, 1) := dk_172 (dk_at dksJ22_getInt_0 19 rfl rfl)
theorem dJ22_getInt_20 : decode cJ22_getInt 20 = .ok (.aload_n 0, 1) := dk_42 (dk_at dksJ22_getInt_0 20 rfl rfl)
theorem dJ22_getInt_21 : decode cJ22_getInt 21 = .ok (.getfield 28, 3) := dk_180 0 28 (dk_at dksJ22_getInt_0 21 rfl rfl)
theorem dJ22_getInt_24 : decode cJ22_getInt 24 = .ok (.aload_n 0, 1) := dk_42 (dk_at dksJ22_getInt_1 0 rfl rfl)
theorem dJ22_getInt_25 : decode cJ22_getInt 25 = .ok (.getfield 28, 3) := dk_180 0 28 (dk_at dksJ22_getInt_1 1 rfl rfl)
theorem dJ22_getInt_28 : decode cJ22_getInt 28 = .ok (.arraylength, 1) := dk_190 (dk_at dksJ22_getInt_1 4 rfl rfl)
theorem dJ22_getInt_29 : decode cJ22_getInt 29 = .ok (.iload_n 1, 1) := dk_27 (dk_at dksJ22_getInt_1 5 rfl rfl)
theorem dJ22_getInt_30 : decode cJ22_getInt 30 = .ok (.isub, 1) := dk_100 (dk_at dksJ22_getInt_1 6 rfl rfl)
theorem dJ22_getInt_31 : decode cJ22_getInt 31 = .ok (.iconst 1, 1) := dk_4 (dk_at dksJ22_getInt_1 7 rfl rfl)
theorem dJ22_getInt_32 : decode cJ22_getInt 32 = .ok (.isub, 1) := dk_100 (dk_at dksJ22_getInt_1 8 rfl rfl)
theorem dJ22_getInt_33 : decode cJ22_getInt 33 = .ok (.iaload, 1) := dk_46 (dk_at dksJ22_getInt_1 9 rfl rfl)
theorem dJ22_getInt_34 : decode cJ22_getInt 34 = .ok (.istore_n 2, 1) := dk_61 (dk_at dksJ22_getInt_1 10 rfl rfl)
theorem dJ22_getInt_35 : decode cJ22_getInt 35 = .ok (.aload_n 0, 1) := dk_42 (dk_at dksJ22_getInt_1 11 rfl rfl)
theorem dJ22_getInt_36 : decode cJ22_getInt 36 = .ok (.getfield 32, 3) := dk_180 0 32 (dk_at dksJ22_getInt_1 12 rfl rfl)
theorem dJ22_getInt_39 : decode cJ22_getInt 39 = .ok (.ifCond .lt 7, 3) := dk_155 0 7 (dk_at dksJ22_getInt_1 15 rfl rfl)
theorem dJ22_getInt_42 : decode cJ22_getInt 42 = .ok (.iload_n 2, 1) := dk_28 (dk_at dksJ22_getInt_1 18 rfl rfl)
theorem dJ22_getInt_43 : decode cJ22_getInt 43 = .ok (.goto 19, 3) := dk_167 0 19 (dk_at dksJ22_getInt_1 19 rfl rfl)
theorem dJ22_getInt_46 : decode cJ22_getInt 46 = .ok (.iload_n 1, 1) := dk_27 (dk_at dksJ22_getInt_1 22 rfl rfl)
theorem dJ22_getInt_47 : decode cJ22_getInt 47 = .ok (.aload_n 0, 1) := dk_42 (dk_at dksJ22_getInt_1 23 rfl rfl)
theorem dJ22_getInt_48 : decode cJ22_getInt 48 = .ok (.invokevirtual 863, 3) := dk_182 3 95 (dk_at dksJ22_getInt_2 0 rfl rfl)
theorem dJ22_getInt_51 : decode cJ22_getInt 51 = .ok (.if_icmp .gt 8, 3) := dk_163 0 8 (dk_at dksJ22_getInt_2 3 rfl rfl)
theorem dJ22_getInt_54 : decode cJ22_getInt 54 = .ok (.iload_n 2, 1) := dk_28 (dk_at dksJ22_getInt_2 6 rfl rfl)
theorem dJ22_getInt_55 : decode cJ22_getInt 55 = .ok (.ineg, 1) := dk_116 (dk_at dksJ22_getInt_2 7 rfl rfl)
theorem dJ22_getInt_56 : decode cJ22_getInt 56 = .ok (.goto 6, 3) := dk_167 0 6 (dk_at dksJ22_getInt_2 8 rfl rfl)
theorem dJ22_getInt_59 : decode cJ22_getInt 59 = .ok (.iload_n 2, 1) := dk_28 (dk_at dksJ22_getInt_2 11 rfl rfl)
theorem dJ22_getInt_60 : decode cJ22_getInt 60 = .ok (.iconst (-1), 1) := dk_2 (dk_at dksJ22_getInt_2 12 rfl rfl)
theorem dJ22_getInt_61 : decode cJ22_getInt 61 = .ok (.ixor, 1) := dk_130 (dk_at dksJ22_getInt_2 13 rfl rfl)
theorem dJ22_getInt_62 : decode cJ22_getInt 62 = .ok (.ireturn, 1) := dk_172 (dk_at dksJ22_getInt_2 14 rfl rfl)
def dkwJ22_longValue_1 : List UInt8 := [132, 3, 255, 167, 255, 233, 31, 173]
abbrev dktJ22_longValue_1 : List UInt8 := dkwJ22_longValue_1 ++ []
def dkwJ22_longValue_0 : List UInt8 := [9, 64, 4, 62, 29, 155, 0, 25, 31, 16, 32, 121, 42, 29, 182, 2, 224, 133, 20, 0, 130, 127, 97, 64]
abbrev dktJ22_longValue_0 : List UInt8 := dkwJ22_longValue_0 ++ dktJ22_longValue_1
theorem dksJ22_longValue_0 : cJ22_longValue.data.toList.drop 0 = dktJ22_longValue_0 := by decide +kernel
theorem dksJ22_longValue_1 : cJ22_longValue.data.toList.drop 24 = dktJ22_longValue_1 := dk_seg dksJ22_longValue_0 24 rfl rfl
theorem dJ22_longValue_0 : decode cJ22_longValue 0 = .ok (.lconst 0, 1) := dk_9 (dk_at dksJ22_longValue_0 0 rfl rfl)
theorem dJ22_longValue_1 : decode cJ22_longValue 1 = .ok (.lstore_n 1, 1) := dk_64 (dk_at dksJ22_longValue_0 1 rfl rfl)
theorem dJ22_longValue_2 : decode cJ22_longValue 2 = .ok (.iconst 1, 1) := dk_4 (dk_at dksJ22_longValue_0 2 rfl rfl)
theorem dJ22_longValue_3 : decode cJ22_longValue 3 = .ok (.istore_n 3, 1) := dk_62 (dk_at dksJ22_longValue_0 3 rfl rfl)
theorem dJ22_longValue_4 : decode cJ22_longValue 4 = .ok (.iload_n 3, 1) := dk_29 (dk_at dksJ22_longValue_0 4 rfl rfl)
theorem dJ22_longValue_5 : decode cJ22_longValue 5 = .ok (.ifCond .lt 25, 3) := dk_155 0 25 (dk_at dksJ22_longValue_0 5 rfl rfl)
theorem dJ22_longValue_8 : decode cJ22_longValue 8 = .ok (.lload_n 1, 1) := dk_31 (dk_at dksJ22_longValue_0 8 rfl rfl)
theorem dJ22_longValue_9 : decode cJ22_longValue 9 = .ok (.bipush 32, 2) := dk_16 32 (dk_at dksJ22_longValue_0 9 rfl rfl)
theorem dJ22_longValue_11 : decode cJ22_longValue 11 = .ok (.lshl, 1) := dk_121 (dk_at dksJ22_longValue_0 11 rfl rfl)
theorem dJ22_longValue_12 : decode cJ22_longValue 12 = .ok (.aload_n 0, 1) := dk_42 (dk_at dksJ22_longValue_0 12 rfl rfl)
theorem dJ22_longValue_13 : decode cJ22_longValue 13 = .ok (.iload_n 3, 1) := dk_29 (dk_at dksJ22_longValue_0 13 rfl rfl)
theorem dJ22_longValue_14 : decode cJ22_longValue 14 = .ok (.invokevirtual 736, 3) := dk_182 2 224 (dk_at dksJ22_longValue_0 14 rfl rfl)
theorem dJ22_longValue_17 : decode cJ22_longValue 17 = .ok (.i2l, 1) := dk_133 (dk_at dksJ22_longValue_0 17 rfl rfl)
theorem dJ22_longValue_18 : decode cJ22_longValue 18 = .ok (.ldc2_w 130, 3) := dk_20 0 130 (dk_at dksJ22_longValue_0 18 rfl rfl)
theorem dJ22_longValue_21 : decode cJ22_longValue 21 = .ok (.land, 1) := dk_127 (dk_at dksJ22_longValue_0 21 rfl rfl)
theorem dJ22_longValue_22 : decode cJ22_longValue 22 = .ok (.ladd, 1) := dk_97 (dk_at dksJ22_longValue_0 22 rfl rfl)
theorem dJ22_longValue_23 : decode cJ22_longValue 23 = .ok (.lstore_n 1, 1) := dk_64 (dk_at dksJ22_longValue_0 23 rfl rfl)
theorem dJ22_longValue_24 : decode cJ22_longValue 24 = .ok (.iinc 3 (-1), 3) := dk_132 3 255 (dk_at dksJ22_longValue_1 0 rfl rfl)
theorem dJ22_longValue_27 : decode cJ22_longValue 27 = .ok (.goto (-23), 3) := dk_167 255 233 (dk_at dksJ22_longValue_1 3 rfl rfl)
theorem dJ22_longValue_30 : decode cJ22_longValue 30 = .ok (.lload_n 1, 1) := dk_31 (dk_at dksJ22_longValue_1 6 rfl rfl)
theorem dJ22_longValue_31 : decode cJ22_longValue 31 = .ok (.lreturn, 1) := dk_173 (dk_at dksJ22_longValue_1 7 rfl rfl)
theorem yd_J22_bitLengthForInt : yJ22_bitLengthForInt.cls ≠ "java/lang/invoke/MethodHandle" ∧ yJ22_bitLengthForInt.cls ≠ "java/lang/invoke/VarHandle" ∧ (parseMethodDescriptor yJ22_bitLengthForInt.desc).map (fun d => d.parameters.length) = some 1 := by decide +kernel
theorem ydv_J22_getInt : yJ22_getInt.cls = "java/math/BigInteger" ∧ yJ22_getInt.cls ≠ "java/lang/invoke/MethodHandle" ∧ yJ22_getInt.cls ≠ "java/lang/invoke/VarHandle" ∧ (parseMethodDescriptor yJ22_getInt.desc).map (fun d => d.parameters.length) = some 1 := by decide +kernel
theorem ydv_J22_signInt : yJ22_signInt.cls = "java/math/BigInteger" ∧ yJ22_signInt.cls ≠ "java/lang/invoke/MethodHandle" ∧ yJ22_signInt.cls ≠ "java/lang/invoke/VarHandle" ∧ (parseMethodDescriptor yJ22_signInt.desc).map (fun d => d.parameters.length) = some 0 := by decide +kernel
/-! ### BigIntegers told -/
theorem nI_ne_neg {t : Nat} (h : t < 2147483648) {c : Int32} (hc : c.toInt < 0) : nI t ≠ c := by
  intro q
  have := congrArg Int32.toInt q
  rw [nI_toInt (by omega)] at this
  omega
theorem bI.recv {z s : State} {w : Bool} {H : Heap} {a m n : Nat} {d : Nat → Nat} {v : Int} (h : bI z w H a m n d v) (hal : z.vm.Alike s.vm) : ∃ cell : Cell, H[a]? = some cell ∧ cell.vm.isStatics = false ∧ s.vm.findClass "java/math/BigInteger" = some cell.cls := by
  obtain ⟨c1, c2, c3, c4, hO, -⟩ := h
  exact hO.recv hal
theorem isTz_uniq {n a b : Nat} (h : isTz n a) (h2 : isTz n b) : a = b := tz_uniq h.1 h.2 h2.1 h2.2
theorem bl_top {d : Nat → Nat} (hd : ∀ i, d i < 4294967296) {n b : Nat} (hn : 0 < n) (h0 : d 0 ≠ 0) (hb : isBl (d 0) b) : isBl (val d n) ((n - 1) * 32 + b) ∧ 1 ≤ b := by
  obtain ⟨t, rfl⟩ : ∃ t, n = t + 1 := ⟨n - 1, by omega⟩
  unfold isBl at *
  have hb1 : 1 ≤ b := by
    refine Decidable.byContradiction fun q => ?_
    have : b = 0 := by omega
    subst this
    have := hb.1
    rw [Nat.pow_zero] at this
    omega
  rw [← seg_0, seg_l, Nat.add_sub_cancel, Nat.zero_add]
  have h2 := seg_lt hd 1 t
  have e : 4294967296 ^ t = 2 ^ (t * 32) := by rw [Nat.mul_comm, Nat.pow_mul]
  refine ⟨⟨?_, Or.inr ?_⟩, hb1⟩
  · rw [Nat.pow_add, ← e]
    have h3 : (d 0 + 1) * 4294967296 ^ t ≤ 2 ^ b * 4294967296 ^ t := Nat.mul_le_mul_right _ hb.1
    rw [Nat.mul_comm (4294967296 ^ t), Nat.add_mul] at *
    omega
  · rw [show t * 32 + b - 1 = t * 32 + (b - 1) by omega, Nat.pow_add, ← e, Nat.mul_comm]
    rcases hb.2 with q | q
    · omega
    · have := Nat.mul_le_mul_right (4294967296 ^ t) q
      omega
theorem tz_low {d : Nat → Nat} {n i t : Nat} (hi : i < n) (hz : ∀ j, j < i → d (n - 1 - j) = 0) (ht : isTz (d (n - 1 - i)) t) (ht9 : t < 32) : isTz (val d n) (i * 32 + t) := by
  obtain ⟨u, rfl⟩ : ∃ u, n = u + 1 + i := ⟨n - 1 - i, by omega⟩
  rw [← seg_0, seg_app, seg_zero (o := 0 + (u + 1)) (t := i) (fun j h1 h2 => by have := hz (u + 1 + i - 1 - j) (by omega); rwa [show u + 1 + i - 1 - (u + 1 + i - 1 - j) = j by omega] at this), seg_r, Nat.add_zero, Nat.zero_add]
  rw [show u + 1 + i - 1 - i = u by omega] at ht
  unfold isTz at *
  have e : 4294967296 ^ i = 2 ^ (i * 32) := by rw [Nat.mul_comm, Nat.pow_mul]
  have e2 : (4294967296 : Nat) = 2 ^ t * 2 ^ (32 - t) := (pow_split (by omega)).symm
  have e4 : 2 ^ (32 - t) % 2 = 0 := by
    rw [show 32 - t = (31 - t) + 1 by omega, Nat.pow_succ]
    omega
  have e5 : d u = 2 ^ t * (d u / 2 ^ t) := by
    have := Nat.div_add_mod (d u) (2 ^ t)
    omega
  have e3 : (seg d 0 u * 4294967296 + d u) * 4294967296 ^ i = 2 ^ (i * 32 + t) * (seg d 0 u * 2 ^ (32 - t) + d u / 2 ^ t) := by
    rw [e, Nat.pow_add]
    have e6 : seg d 0 u * 4294967296 + d u = 2 ^ t * (seg d 0 u * 2 ^ (32 - t) + d u / 2 ^ t) := by
      rw [Nat.mul_add, ← e5, ← Nat.mul_assoc, Nat.mul_comm (2 ^ t), Nat.mul_assoc, ← e2]
    rw [e6]
    exact (Nat.mul_comm _ _).trans (Nat.mul_assoc _ _ _).symm
  rw [e3, Nat.mul_mod_right, Nat.mul_div_cancel_left _ (Nat.two_pow_pos _)]
  refine ⟨rfl, ?_⟩
  rw [Nat.add_mod, Nat.mul_mod, e4, Nat.mul_zero, Nat.zero_mod, Nat.zero_add, Nat.mod_mod]
  exact ht.2
/-- a digit that isn't 0 has trailing zeros -/
theorem tz_ex {x : Nat} (h0 : 0 < x) (h : x < 4294967296) : ∃ t, t < 32 ∧ isTz x t := by
  have h1 := tz_spec h0 (Nat.lt_trans h (by decide))
  refine ⟨tz x, ?_, h1.2⟩
  refine Decidable.byContradiction fun q => ?_
  have h2 : x / 2 ^ tz x = 0 := Nat.div_eq_of_lt (Nat.lt_of_lt_of_le h (Nat.pow_le_pow_right (n := 2) (i := 32) (by decide) (by omega)))
  rw [h2] at h1
  exact absurd h1.2.2 (by decide)
theorem lv_sum {d : Nat → Nat} {n V : Nat} (hd : ∀ i, d i < 4294967296) (hv : val d n = V) (hn : 0 < n) (hV : V < 18446744073709551616) (h0 : d 0 ≠ 0) : n ≤ 2 ∧ (if 1 < n then d (n - 1 - 1) else 0) * 4294967296 + (if 0 < n then d (n - 1 - 0) else 0) = V := by
  have hl := lead_le hn h0
  rw [hv] at hl
  have hn2 : n ≤ 2 := by
    refine Decidable.byContradiction fun q => ?_
    have : 4294967296 ^ 2 ≤ 4294967296 ^ (n - 1) := Nat.pow_le_pow_right (by decide) (by omega)
    omega
  refine ⟨hn2, ?_⟩
  rw [← hv]
  rcases (show n = 1 ∨ n = 2 by omega) with e | e
  · subst e
    rw [if_neg (by decide), if_pos (by decide)]
    show 0 * 4294967296 + d 0 = 0 * 4294967296 + d 0
    rfl
  · subst e
    rw [if_pos (by decide), if_pos (by decide)]
    show d 0 * 4294967296 + d 1 = (0 * 4294967296 + d 0) * 4294967296 + d 1
    omega
theorem lN_shl32 {a : Nat} : lN a <<< (((32 : Int32)).toInt64 &&& 63) = lN (a * 4294967296) := by
  rw [show (((32 : Int32)).toInt64 &&& 63) = 32 by decide]
  apply Int64.toBitVec_inj.mp
  rw [Int64.toBitVec_shiftLeft]
  apply BitVec.eq_of_toNat_eq
  show ((lN a).toBitVec <<< ((32 : Int64).toBitVec.smod 64)).toNat = (BitVec.ofNat 64 (a * 4294967296)).toNat
  rw [show ((32 : Int64).toBitVec.smod 64) = BitVec.ofNat 64 32 by decide, BitVec.shiftLeft_eq', BitVec.toNat_shiftLeft, BitVec.toNat_ofNat, BitVec.toNat_ofNat, Nat.shiftLeft_eq]
  show (BitVec.ofNat 64 a).toNat * 2 ^ 32 % 2 ^ 64 = _
  rw [BitVec.toNat_ofNat, Nat.mod_mul_mod]

set_option maxHeartbeats 1000000 in
theorem m_abs2 (l : Launch) (z : State) (H0 : Heap) (a : Nat) (w1 : Bool) (m1 : Nat) (c1 c2 c3 c4 : Int32) (hO : gO z w1 RJ22 TJ22 6 H0 a [.int 1, .ref m1, .int c1, .int c2, .int c3, .int c4]) : Met l yJ22_abs (ws_ yJ22_abs cJ22_abs 1 (some (.object "java/math/BigInteger"))) { frames := 0, cells := 0, slots := 0, locals := 0 } (gPc z H0 [.ref a]) (gPr H0 (fun r => r = a)) 0 0 gno := by
  refine g_start (by decide +kernel) (Nat.le_of_ble_eq_true rfl) ?_
  intro p e s m below meth c ls hx hb hr hlocks hml hown hname hts hwm hl
  have hown : s.vm.findClass "java/math/BigInteger" = some m.cls := hown
  have hal : z.vm.Alike s.vm := hwm.alike
  have hCF : CallFix p m c cJ22_abs 1 s [.ref a].toArray lw_all "java/math/BigInteger" := ⟨hx, hb, hml, hown, hts⟩
  have hl : lv_has ls 1 [(0, .ref a)] := hl
  refine lv_aload_n hx hb dJ22_abs_0 rfl (lv_at hl 0 rfl) ?_
  refine gw_get (C := RJ22) (T := TJ22) (N := 6) (v := .int 1) hx hb hts in_J22 hown hal hO 0 (by decide) (hts _ q835) (fun _ h9 => h9) rfl dJ22_abs_1 ?_
  refine lv_if_lt (tgt := 11) hx hb dJ22_abs_4 (by decide) (fun c_4 => absurd c_4 (by decide)) (fun c_4 => ?_)
  refine lv_aload_n hx hb dJ22_abs_7 rfl (lv_at hl 0 rfl) ?_
  refine lv_goto (tgt := 15) hx hb dJ22_abs_8 (by decide) ?_
  refine g_aretP hx hb hr hlocks (Or.inl ⟨_, rfl⟩) ?_ dJ22_abs_15
  rfl
set_option maxHeartbeats 1000000 in
theorem m_sig (l : Launch) (z : State) (H0 : Heap) (a : Nat) (sx : Int32) (w1 : Bool) (m1 : Nat) (c1 c2 c3 c4 : Int32) (hO : gO z w1 RJ22 TJ22 6 H0 a [.int sx, .ref m1, .int c1, .int c2, .int c3, .int c4]) : Met l yJ22_signum (ws_ yJ22_signum cJ22_signum 1 (some .int)) { frames := 0, cells := 0, slots := 0, locals := 0 } (gPc z H0 [.ref a]) (gPi H0 (fun r => r = sx)) 0 0 gno := by
  refine g_start (by decide +kernel) (Nat.le_of_ble_eq_true rfl) ?_
  intro p e s m below meth c ls hx hb hr hlocks hml hown hname hts hwm hl
  have hown : s.vm.findClass "java/math/BigInteger" = some m.cls := hown
  have hal : z.vm.Alike s.vm := hwm.alike
  have hCF : CallFix p m c cJ22_signum 1 s [.ref a].toArray lw_all "java/math/BigInteger" := ⟨hx, hb, hml, hown, hts⟩
  have hl : lv_has ls 1 [(0, .ref a)] := hl
  refine lv_aload_n hx hb dJ22_signum_0 rfl (lv_at hl 0 rfl) ?_
  refine gw_get (C := RJ22) (T := TJ22) (N := 6) (v := .int sx) hx hb hts in_J22 hown hal hO 0 (by decide) (hts _ q835) (fun _ h9 => h9) rfl dJ22_signum_1 ?_
  refine g_iretP hx hb hr hlocks ?_ dJ22_signum_4
  rfl
set_option maxHeartbeats 1000000 in
theorem m_signInt (l : Launch) (z : State) (H0 : Heap) (a : Nat) (w1 : Bool) (m1 : Nat) (c1 c2 c3 c4 : Int32) (hO : gO z w1 RJ22 TJ22 6 H0 a [.int 1, .ref m1, .int c1, .int c2, .int c3, .int c4]) : Met l yJ22_signInt (ws_ yJ22_signInt cJ22_signInt 1 (some .int)) { frames := 0, cells := 0, slots := 0, locals := 0 } (gPc z H0 [.ref a]) (gPi H0 (fun r => r = 0)) 0 0 gno := by
  refine g_start (by decide +kernel) (Nat.le_of_ble_eq_true rfl) ?_
  intro p e s m below meth c ls hx hb hr hlocks hml hown hname hts hwm hl
  have hown : s.vm.findClass "java/math/BigInteger" = some m.cls := hown
  have hal : z.vm.Alike s.vm := hwm.alike
  have hCF : CallFix p m c cJ22_signInt 1 s [.ref a].toArray lw_all "java/math/BigInteger" := ⟨hx, hb, hml, hown, hts⟩
  have hl : lv_has ls 1 [(0, .ref a)] := hl
  refine lv_aload_n hx hb dJ22_signInt_0 rfl (lv_at hl 0 rfl) ?_
  refine gw_get (C := RJ22) (T := TJ22) (N := 6) (v := .int 1) hx hb hts in_J22 hown hal hO 0 (by decide) (hts _ q835) (fun _ h9 => h9) rfl dJ22_signInt_1 ?_
  refine lv_if_ge (tgt := 11) hx hb dJ22_signInt_4 (by decide) (fun c_4 => ?_) (fun c_4 => absurd (by decide) c_4)
  refine lv_iconst (v := 0) hx hb dJ22_signInt_11 (by decide) ?_
  refine g_iretP hx hb hr hlocks ?_ dJ22_signInt_12
  rfl
set_option maxHeartbeats 1000000 in
theorem m_blC (l : Launch) (z : State) (H0 : Heap) (a : Nat) (bb : Nat) (sx : Int32) (w1 : Bool) (m1 : Nat) (c1 c2 c3 c4 : Int32) (hbb : bb < 100000) (hc2 : c2 = nI (bb + 1)) (hO : gO z w1 RJ22 TJ22 6 H0 a [.int sx, .ref m1, .int c1, .int c2, .int c3, .int c4]) : Met l yJ22_bitLength (ws_ yJ22_bitLength cJ22_bitLength 7 (some .int)) { frames := 0, cells := 0, slots := 0, locals := 0 } (gPc z H0 [.ref a]) (gPi H0 (fun r => r = nI bb)) 0 0 gno := by
  refine g_start (by decide +kernel) (Nat.le_of_ble_eq_true rfl) ?_
  intro p e s m below meth c ls hx hb hr hlocks hml hown hname hts hwm hl
  have hown : s.vm.findClass "java/math/BigInteger" = some m.cls := hown
  have hal : z.vm.Alike s.vm := hwm.alike
  have hCF : CallFix p m c cJ22_bitLength 7 s [.ref a].toArray lw_all "java/math/BigInteger" := ⟨hx, hb, hml, hown, hts⟩
  have hl : lv_has ls 7 [(0, .ref a)] := hl
  subst hc2
  refine lv_aload_n hx hb dJ22_bitLength_0 rfl (lv_at hl 0 rfl) ?_
  refine gw_get (C := RJ22) (T := TJ22) (N := 6) (v := .int (nI (bb + 1))) hx hb hts in_J22 hown hal hO 3 (by decide) (hts _ q838) (fun _ h9 => h9) rfl dJ22_bitLength_1 ?_
  refine lv_iconst (v := 1) hx hb dJ22_bitLength_4 (by decide) ?_
  refine lv_isub hx hb dJ22_bitLength_5 ?_
  refine g_topi (v := nI bb) (ai_sub (a := (bb + 1)) (b := 1) (rfl) (rfl) (by omega)) ?_
  refine lv_istore_n hx hb dJ22_bitLength_6 rfl hl (by decide) rfl (fun ls hl => ?_)
  have hl : lv_has ls 7 [(1, .int (nI bb)), (0, .ref a)] := hl
  refine lv_iload_n hx hb dJ22_bitLength_7 rfl (lv_at hl 0 rfl) ?_
  refine lv_iconst (v := -1) hx hb dJ22_bitLength_8 (by decide) ?_
  refine lv_icmp_ne (tgt := 138) hx hb dJ22_bitLength_9 (by decide) (fun c_9 => ?_) (fun c_9 => False.elim (by
    have c_9 := (ai_eqI (a := (bb : Nat)) (b := (-1)) (nI_iI _) (by decide) (by omega) (by omega) (by omega) (by omega)).mp c_9
    omega))
  have c_9 := mt (ai_eqI (a := (bb : Nat)) (b := (-1)) (nI_iI _) (by decide) (by omega) (by omega) (by omega) (by omega)).mpr c_9
  refine lv_iload_n hx hb dJ22_bitLength_138 rfl (lv_at hl 0 rfl) ?_
  refine g_iretP hx hb hr hlocks ?_ dJ22_bitLength_139
  rfl
set_option maxHeartbeats 1000000 in
theorem m_lsbC (l : Launch) (z : State) (H0 : Heap) (a : Nat) (bb : Nat) (sx : Int32) (w1 : Bool) (m1 : Nat) (c1 c2 c3 c4 : Int32) (hbb : bb < 100000) (hc3 : c3 = nI (bb + 2)) (hO : gO z w1 RJ22 TJ22 6 H0 a [.int sx, .ref m1, .int c1, .int c2, .int c3, .int c4]) : Met l yJ22_getLowestSetBit (ws_ yJ22_getLowestSetBit cJ22_getLowestSetBit 4 (some .int)) { frames := 0, cells := 0, slots := 0, locals := 0 } (gPc z H0 [.ref a]) (gPi H0 (fun r => r = nI bb)) 0 0 gno := by
  refine g_start (by decide +kernel) (Nat.le_of_ble_eq_true rfl) ?_
  intro p e s m below meth c ls hx hb hr hlocks hml hown hname hts hwm hl
  have hown : s.vm.findClass "java/math/BigInteger" = some m.cls := hown
  have hal : z.vm.Alike s.vm := hwm.alike
  have hCF : CallFix p m c cJ22_getLowestSetBit 4 s [.ref a].toArray lw_all "java/math/BigInteger" := ⟨hx, hb, hml, hown, hts⟩
  have hl : lv_has ls 4 [(0, .ref a)] := hl
  subst hc3
  refine lv_aload_n hx hb dJ22_getLowestSetBit_0 rfl (lv_at hl 0 rfl) ?_
  refine gw_get (C := RJ22) (T := TJ22) (N := 6) (v := .int (nI (bb + 2))) hx hb hts in_J22 hown hal hO 4 (by decide) (hts _ q839) (fun _ h9 => h9) rfl dJ22_getLowestSetBit_1 ?_
  refine lv_iconst (v := 2) hx hb dJ22_getLowestSetBit_4 (by decide) ?_
  refine lv_isub hx hb dJ22_getLowestSetBit_5 ?_
  refine g_topi (v := nI bb) (ai_sub (a := (bb + 2)) (b := 2) (rfl) (rfl) (by omega)) ?_
  refine lv_istore_n hx hb dJ22_getLowestSetBit_6 rfl hl (by decide) rfl (fun ls hl => ?_)
  have hl : lv_has ls 4 [(1, .int (nI bb)), (0, .ref a)] := hl
  refine lv_iload_n hx hb dJ22_getLowestSetBit_7 rfl (lv_at hl 0 rfl) ?_
  refine lv_bipush (v := -2) hx hb dJ22_getLowestSetBit_8 (by decide) ?_
  refine lv_icmp_ne (tgt := 64) hx hb dJ22_getLowestSetBit_10 (by decide) (fun c_10 => ?_) (fun c_10 => False.elim (by
    have c_10 := (ai_eqI (a := (bb : Nat)) (b := (-2)) (nI_iI _) (by decide) (by omega) (by omega) (by omega) (by omega)).mp c_10
    omega))
  have c_10 := mt (ai_eqI (a := (bb : Nat)) (b := (-2)) (nI_iI _) (by decide) (by omega) (by omega) (by omega) (by omega)).mpr c_10
  refine lv_iload_n hx hb dJ22_getLowestSetBit_64 rfl (lv_at hl 0 rfl) ?_
  refine g_iretP hx hb hr hlocks ?_ dJ22_getLowestSetBit_65
  rfl
set_option maxHeartbeats 1000000 in
theorem m_getInt (l : Launch) (z : State) (H0 : Heap) (a : Nat) (i : Nat) (V1 : Nat) (w1 : Bool) (m1 n1 : Nat) (d1 : Nat → Nat) (hi9 : i < 1000) (hV1 : 0 < V1) (hn91 : n1 ≤ 20) (hb1 : bI z w1 H0 a m1 n1 d1 V1) : Met l yJ22_getInt (ws_ yJ22_getInt cJ22_getInt 3 (some .int)) { frames := 1, cells := 0, slots := 0, locals := 20 } (gPc z H0 [.ref a, .int (nI i)]) (gPi H0 (fun r => r = nI (if i < n1 then d1 (n1 - 1 - i) else 0))) 0 0 gno := by
  refine g_start (by decide +kernel) (Nat.le_of_ble_eq_true rfl) ?_
  intro p e s m below meth c ls hx hb hr hlocks hml hown hname hts hwm hl
  have hown : s.vm.findClass "java/math/BigInteger" = some m.cls := hown
  have hal : z.vm.Alike s.vm := hwm.alike
  have hCF : CallFix p m c cJ22_getInt 3 s [.ref a, .int (nI i)].toArray lw_all "java/math/BigInteger" := ⟨hx, hb, hml, hown, hts⟩
  have hl : lv_has ls 3 [(0, .ref a), (1, .int (nI i))] := hl
  obtain ⟨c11, c21, c31, c41, hO1, hM1, hd1, hv1, h01, hn1, hca1⟩ := hb1
  rw [sg_pos (show (0 : Int) < (V1 : Int) by omega)] at hO1
  have hv1 : val d1 n1 = V1 := by rw [hv1]; omega
  have hnp1 := n_pos hv1 hV1
  have h01 := h01 hnp1
  refine lv_iload_n hx hb dJ22_getInt_0 rfl (lv_at hl 1 rfl) ?_
  refine lv_if_ge (tgt := 6) hx hb dJ22_getInt_1 (by decide) (fun c_1 => ?_) (fun c_1 => False.elim (by
    have c_1 := mt (ai_le (a := 0) (b := i) (rfl) (rfl) (by omega) (by omega)).mpr c_1
    omega))
  have c_1 := (ai_le (a := 0) (b := i) (rfl) (rfl) (by omega) (by omega)).mp c_1
  refine lv_iload_n hx hb dJ22_getInt_6 rfl (lv_at hl 1 rfl) ?_
  refine lv_aload_n hx hb dJ22_getInt_7 rfl (lv_at hl 0 rfl) ?_
  refine gw_get (C := RJ22) (T := TJ22) (N := 6) (v := .ref m1) hx hb hts in_J22 hown hal hO1 1 (by decide) (hts _ q837) (fun _ h9 => h9) rfl dJ22_getInt_8 ?_
  refine gw_len hx hb hal hM1 dJ22_getInt_11 ?_
  refine lv_icmp_lt (tgt := 20) hx hb dJ22_getInt_12 (by decide) (fun c_12 => ?_) (fun c_12 => ?_)
  · skip
    have c_12 := (ai_lt (a := i) (b := n1) (rfl) (rfl) (by omega) (by omega)).mp c_12
    refine lv_aload_n hx hb dJ22_getInt_20 rfl (lv_at hl 0 rfl) ?_
    refine gw_get (C := RJ22) (T := TJ22) (N := 6) (v := .ref m1) hx hb hts in_J22 hown hal hO1 1 (by decide) (hts _ q837) (fun _ h9 => h9) rfl dJ22_getInt_21 ?_
    refine lv_aload_n hx hb dJ22_getInt_24 rfl (lv_at hl 0 rfl) ?_
    refine gw_get (C := RJ22) (T := TJ22) (N := 6) (v := .ref m1) hx hb hts in_J22 hown hal hO1 1 (by decide) (hts _ q837) (fun _ h9 => h9) rfl dJ22_getInt_25 ?_
    refine gw_len hx hb hal hM1 dJ22_getInt_28 ?_
    refine lv_iload_n hx hb dJ22_getInt_29 rfl (lv_at hl 1 rfl) ?_
    refine lv_isub hx hb dJ22_getInt_30 ?_
    refine g_topi (v := nI (n1 - i)) (ai_sub (a := n1) (b := i) (rfl) (rfl) (by omega)) ?_
    refine lv_iconst (v := 1) hx hb dJ22_getInt_31 (by decide) ?_
    refine lv_isub hx hb dJ22_getInt_32 ?_
    refine g_topi (v := (nI (n1 - 1 - i))) ((ai_sub (a := n1 - i) (b := 1) rfl rfl (by omega)).trans (congrArg nI (by omega))) ?_
    refine gw_iald hx hb hal hM1 (n1 - 1 - i) (rfl) (by omega) (by omega) dJ22_getInt_33 ?_
    refine g_topi (v := (nI (d1 (n1 - 1 - i)))) rfl ?_
    refine lv_istore_n hx hb dJ22_getInt_34 rfl hl (by decide) rfl (fun ls hl => ?_)
    have hl : lv_has ls 3 [(2, .int (nI (d1 (n1 - 1 - i)))), (0, .ref a), (1, .int (nI i))] := hl
    refine lv_aload_n hx hb dJ22_getInt_35 rfl (lv_at hl 1 rfl) ?_
    refine gw_get (C := RJ22) (T := TJ22) (N := 6) (v := .int 1) hx hb hts in_J22 hown hal hO1 0 (by decide) (hts _ q835) (fun _ h9 => h9) rfl dJ22_getInt_36 ?_
    refine lv_if_lt (tgt := 46) hx hb dJ22_getInt_39 (by decide) (fun c_39 => absurd c_39 (by decide)) (fun c_39 => ?_)
    refine lv_iload_n hx hb dJ22_getInt_42 rfl (lv_at hl 0 rfl) ?_
    refine lv_goto (tgt := 62) hx hb dJ22_getInt_43 (by decide) ?_
    refine g_iretP hx hb hr hlocks ?_ dJ22_getInt_62
    rw [if_pos (by omega)]
  · skip
    have c_12 := mt (ai_lt (a := i) (b := n1) (rfl) (rfl) (by omega) (by omega)).mpr c_12
    refine lv_aload_n hx hb dJ22_getInt_15 rfl (lv_at hl 0 rfl) ?_
    refine gcV0_iP hCF hwm hl.1 (m_signInt l z H0 a w1 m1 c11 c21 c31 c41 hO1 ) (lw_V q1370 q1372 qs27 q83 q1373) ydv_J22_signInt (hO1.recv hal) ⟨Nat.le_of_ble_eq_true rfl, Nat.le_of_ble_eq_true rfl⟩ ⟨Nat.le_of_ble_eq_true rfl, Nat.le_of_ble_eq_true rfl⟩ (Nat.le_of_ble_eq_true rfl) dJ22_getInt_16 (fun r_1 hp => ?_)
    subst hp
    refine g_iretP hx hb hr hlocks ?_ dJ22_getInt_19
    rw [if_neg (by omega)]
    rfl
set_option maxHeartbeats 1000000 in
theorem m_longValue (l : Launch) (z : State) (H0 : Heap) (a : Nat) (V1 : Nat) (w1 : Bool) (m1 n1 : Nat) (d1 : Nat → Nat) (hV9 : V1 < 18446744073709551616) (hV1 : 0 < V1) (hn91 : n1 ≤ 20) (hb1 : bI z w1 H0 a m1 n1 d1 V1) : Met l yJ22_longValue (ws_ yJ22_longValue cJ22_longValue 4 (some .long)) { frames := 2, cells := 0, slots := 0, locals := 42 } (gPc z H0 [.ref a]) (gPl H0 (fun r => r = lN V1)) 0 0 gno := by
  refine g_start (by decide +kernel) (Nat.le_of_ble_eq_true rfl) ?_
  intro p e s m below meth c ls hx hb hr hlocks hml hown hname hts hwm hl
  have hown : s.vm.findClass "java/math/BigInteger" = some m.cls := hown
  have hal : z.vm.Alike s.vm := hwm.alike
  have hCF : CallFix p m c cJ22_longValue 4 s [.ref a].toArray lw_all "java/math/BigInteger" := ⟨hx, hb, hml, hown, hts⟩
  have hl : lv_has ls 4 [(0, .ref a)] := hl
  have hb1x := hb1
  obtain ⟨c11, c21, c31, c41, hO1, hM1, hd1, hv1, h01, hn1, hca1⟩ := hb1
  rw [sg_pos (show (0 : Int) < (V1 : Int) by omega)] at hO1
  have hv1 : val d1 n1 = V1 := by rw [hv1]; omega
  have hnp1 := n_pos hv1 hV1
  have h01 := h01 hnp1
  have hlv := lv_sum hd1 hv1 hnp1 hV9 h01
  refine lv_lconst (v := 0) hx hb dJ22_longValue_0 (by decide) ?_
  refine lv_lstore_n hx hb dJ22_longValue_1 rfl hl (by decide) rfl (fun ls hl => ?_)
  have hl : lv_has ls 4 [(1, .long 0), (0, .ref a)] := hl
  refine lv_iconst (v := 1) hx hb dJ22_longValue_2 (by decide) ?_
  refine lv_istore_n hx hb dJ22_longValue_3 rfl hl (by decide) rfl (fun ls hl => ?_)
  have hl : lv_has ls 4 [(3, .int 1), (1, .long 0), (0, .ref a)] := hl
  refine lv_iload_n hx hb dJ22_longValue_4 rfl (lv_at hl 0 rfl) ?_
  refine lv_if_lt (tgt := 30) hx hb dJ22_longValue_5 (by decide) (fun c_5 => absurd c_5 (by decide)) (fun c_5 => ?_)
  refine lv_lload_n hx hb dJ22_longValue_8 rfl (lv_at hl 1 rfl) ?_
  refine lv_bipush (v := 32) hx hb dJ22_longValue_9 (by decide) ?_
  refine lv_lshl hx hb dJ22_longValue_11 rfl ?_
  refine g_topl (v := lN (0 * 4294967296)) (lN_shl32 (a := 0)) ?_
  refine lv_aload_n hx hb dJ22_longValue_12 rfl (lv_at hl 2 rfl) ?_
  refine lv_iload_n hx hb dJ22_longValue_13 rfl (lv_at hl 0 rfl) ?_
  refine gcV1_iP hCF hwm hl.1 (m_getInt l z H0 a 1 V1 w1 m1 n1 d1 (by decide) hV1 hn91 hb1x ) (lw_V q1366 q1368 qs26 q83 q1369) ydv_J22_getInt (hO1.recv hal) ⟨Nat.le_of_ble_eq_true rfl, Nat.le_of_ble_eq_true rfl⟩ ⟨Nat.le_of_ble_eq_true rfl, Nat.le_of_ble_eq_true rfl⟩ (Nat.le_of_ble_eq_true rfl) dJ22_longValue_14 (fun r_1 hp => ?_)
  subst hp
  refine lv_i2l hx hb dJ22_longValue_17 rfl ?_
  refine lv_ldc2 (v := 4294967295) hx hb hown (hts _ q1228) dJ22_longValue_18 ?_
  refine lv_land hx hb dJ22_longValue_21 ?_
  refine g_topl (v := lN (if 1 < n1 then d1 (n1 - 1 - 1) else 0)) (mk32 (a := (if 1 < n1 then d1 (n1 - 1 - 1) else 0)) (rfl) (by (repeat' split) <;> first | exact hd1 _ | decide)) ?_
  refine lv_ladd hx hb dJ22_longValue_22 ?_
  refine g_topl (v := lN ((0 * 4294967296) + (if 1 < n1 then d1 (n1 - 1 - 1) else 0))) (ai_addL (a := (0 * 4294967296)) (b := (if 1 < n1 then d1 (n1 - 1 - 1) else 0)) (rfl) (rfl)) ?_
  refine lv_lstore_n hx hb dJ22_longValue_23 rfl hl (by decide) rfl (fun ls hl => ?_)
  have hl : lv_has ls 4 [(1, .long (lN ((0 * 4294967296) + (if 1 < n1 then d1 (n1 - 1 - 1) else 0)))), (3, .int 1), (0, .ref a)] := hl
  refine lv_iinc (k := 1) (v := (nI 0)) hx hb dJ22_longValue_24 hl rfl (by decide) (by decide) rfl (fun ls hl => ?_)
  have hl : lv_has ls 4 [(3, .int (nI 0)), (1, .long (lN ((0 * 4294967296) + (if 1 < n1 then d1 (n1 - 1 - 1) else 0)))), (0, .ref a)] := hl
  refine lv_goto (tgt := 4) hx hb dJ22_longValue_27 (by decide) ?_
  refine lv_iload_n hx hb dJ22_longValue_4 rfl (lv_at hl 0 rfl) ?_
  refine lv_if_lt (tgt := 30) hx hb dJ22_longValue_5 (by decide) (fun c_5 => absurd c_5 (by decide)) (fun c_5 => ?_)
  refine lv_lload_n hx hb dJ22_longValue_8 rfl (lv_at hl 1 rfl) ?_
  refine lv_bipush (v := 32) hx hb dJ22_longValue_9 (by decide) ?_
  refine lv_lshl hx hb dJ22_longValue_11 rfl ?_
  refine g_topl (v := lN (((0 * 4294967296) + (if 1 < n1 then d1 (n1 - 1 - 1) else 0)) * 4294967296)) (lN_shl32 (a := ((0 * 4294967296) + (if 1 < n1 then d1 (n1 - 1 - 1) else 0)))) ?_
  refine lv_aload_n hx hb dJ22_longValue_12 rfl (lv_at hl 2 rfl) ?_
  refine lv_iload_n hx hb dJ22_longValue_13 rfl (lv_at hl 0 rfl) ?_
  refine gcV1_iP hCF hwm hl.1 (m_getInt l z H0 a 0 V1 w1 m1 n1 d1 (by decide) hV1 hn91 hb1x ) (lw_V q1366 q1368 qs26 q83 q1369) ydv_J22_getInt (hO1.recv hal) ⟨Nat.le_of_ble_eq_true rfl, Nat.le_of_ble_eq_true rfl⟩ ⟨Nat.le_of_ble_eq_true rfl, Nat.le_of_ble_eq_true rfl⟩ (Nat.le_of_ble_eq_true rfl) dJ22_longValue_14 (fun r_2 hp => ?_)
  subst hp
  refine lv_i2l hx hb dJ22_longValue_17 rfl ?_
  refine lv_ldc2 (v := 4294967295) hx hb hown (hts _ q1228) dJ22_longValue_18 ?_
  refine lv_land hx hb dJ22_longValue_21 ?_
  refine g_topl (v := lN (if 0 < n1 then d1 (n1 - 1 - 0) else 0)) (mk32 (a := (if 0 < n1 then d1 (n1 - 1 - 0) else 0)) (rfl) (by (repeat' split) <;> first | exact hd1 _ | decide)) ?_
  refine lv_ladd hx hb dJ22_longValue_22 ?_
  refine g_topl (v := lN ((((0 * 4294967296) + (if 1 < n1 then d1 (n1 - 1 - 1) else 0)) * 4294967296) + (if 0 < n1 then d1 (n1 - 1 - 0) else 0))) (ai_addL (a := (((0 * 4294967296) + (if 1 < n1 then d1 (n1 - 1 - 1) else 0)) * 4294967296)) (b := (if 0 < n1 then d1 (n1 - 1 - 0) else 0)) (rfl) (rfl)) ?_
  refine lv_lstore_n hx hb dJ22_longValue_23 rfl hl (by decide) rfl (fun ls hl => ?_)
  have hl : lv_has ls 4 [(1, .long (lN ((((0 * 4294967296) + (if 1 < n1 then d1 (n1 - 1 - 1) else 0)) * 4294967296) + (if 0 < n1 then d1 (n1 - 1 - 0) else 0)))), (3, .int (nI 0)), (0, .ref a)] := hl
  refine lv_iinc (k := 1) (v := (-1)) hx hb dJ22_longValue_24 hl rfl (by decide) (by decide) rfl (fun ls hl => ?_)
  have hl : lv_has ls 4 [(3, .int (-1)), (1, .long (lN ((((0 * 4294967296) + (if 1 < n1 then d1 (n1 - 1 - 1) else 0)) * 4294967296) + (if 0 < n1 then d1 (n1 - 1 - 0) else 0)))), (0, .ref a)] := hl
  refine lv_goto (tgt := 4) hx hb dJ22_longValue_27 (by decide) ?_
  refine lv_iload_n hx hb dJ22_longValue_4 rfl (lv_at hl 0 rfl) ?_
  refine lv_if_lt (tgt := 30) hx hb dJ22_longValue_5 (by decide) (fun c_5 => ?_) (fun c_5 => absurd (by decide) c_5)
  refine lv_lload_n hx hb dJ22_longValue_30 rfl (lv_at hl 1 rfl) ?_
  refine g_lretP hx hb hr hlocks ?_ dJ22_longValue_31
  rw [Nat.zero_mul, Nat.zero_add, hlv.2]
set_option maxHeartbeats 1000000 in
theorem m_lsb (l : Launch) (z : State) (H0 : Heap) (a : Nat) (V1 : Nat) (w1 : Bool) (m1 n1 : Nat) (d1 : Nat → Nat) (hV1 : 0 < V1) (hn91 : n1 ≤ 20) (hb1 : bI z w1 H0 a m1 n1 d1 V1) : Met l yJ22_getLowestSetBit (ws_ yJ22_getLowestSetBit cJ22_getLowestSetBit 4 (some .int)) { frames := 2, cells := 0, slots := 0, locals := 42 } (gPc z H0 [.ref a]) (gRi (fun q => q = a) H0 (fun r H1 => ∃ t, r = nI t ∧ isTz V1 t ∧ t < 100000 ∧ bI z w1 H1 a m1 n1 d1 V1)) 0 0 (fun q => q = a) := by
  refine g_start (by decide +kernel) (Nat.le_of_ble_eq_true rfl) ?_
  intro p e s m below meth c ls hx hb hr hlocks hml hown hname hts hwm hl
  have hown : s.vm.findClass "java/math/BigInteger" = some m.cls := hown
  have hal : z.vm.Alike s.vm := hwm.alike
  have hCF : CallFix p m c cJ22_getLowestSetBit 4 s [.ref a].toArray lw_all "java/math/BigInteger" := ⟨hx, hb, hml, hown, hts⟩
  have hl : lv_has ls 4 [(0, .ref a)] := hl
  have hS : va_S (fun q => q = a) H0 H0 [] := va_S.rf
  have hb1x := hb1
  obtain ⟨c11, c21, c31, c41, hO1, hM1, hd1, hv1, h01, hn1, hca1⟩ := hb1
  rw [sg_pos (show (0 : Int) < (V1 : Int) by omega)] at hO1
  have hv1 : val d1 n1 = V1 := by rw [hv1]; omega
  have hnp1 := n_pos hv1 hV1
  have h01 := h01 hnp1
  have hma : m1 ≠ a := Ne.symm (gA.neO2 hal hM1 hO1 (hts _ q819))
  have lt_a := hO1.lt
  have lt_m1 := hM1.lt
  refine lv_aload_n hx hb dJ22_getLowestSetBit_0 rfl (lv_at hl 0 rfl) ?_
  refine gw_get (C := RJ22) (T := TJ22) (N := 6) (v := .int c31) hx hb hts in_J22 hown hal hO1 4 (by decide) (hts _ q839) (fun _ h9 => h9) rfl dJ22_getLowestSetBit_1 ?_
  refine lv_iconst (v := 2) hx hb dJ22_getLowestSetBit_4 (by decide) ?_
  refine lv_isub hx hb dJ22_getLowestSetBit_5 ?_
  refine lv_topi (fun x_1 ex_1 => ?_)
  refine lv_istore_n hx hb dJ22_getLowestSetBit_6 rfl hl (by decide) rfl (fun ls hl => ?_)
  have hl : lv_has ls 4 [(1, .int x_1), (0, .ref a)] := hl
  refine lv_iload_n hx hb dJ22_getLowestSetBit_7 rfl (lv_at hl 0 rfl) ?_
  refine lv_bipush (v := -2) hx hb dJ22_getLowestSetBit_8 (by decide) ?_
  refine lv_icmp_ne (tgt := 64) hx hb dJ22_getLowestSetBit_10 (by decide) (fun c_10 => ?_) (fun c_10 => ?_)
  · skip
    have c_10 : x_1 ≠ -2 := c_10
    refine lv_iload_n hx hb dJ22_getLowestSetBit_64 rfl (lv_at hl 0 rfl) ?_
    refine g_iret hx hb hr hlocks hS (Nat.le_of_ble_eq_true rfl) (Nat.le_of_ble_eq_true rfl) ?_ dJ22_getLowestSetBit_65
    rcases hca1.2 with q | q | ⟨t, q, q2, q3⟩
    · exact absurd (by rw [ex_1, q.2]; decide) c_10
    · exact absurd q.1 (by omega)
    · exact ⟨t, by rw [ex_1, q]; exact ai_sub (a := t + 2) (b := 2) rfl rfl (by omega), by rwa [Int.natAbs_natCast] at q2, q3, hb1x⟩
  · skip
    have hq : c31 - 2 = -2 := by rw [← ex_1]; exact c_10
    have hw9 : w1 = true ∧ c31 = 0 := by
      rcases hca1.2 with q | q | ⟨t, q, q2, q3⟩
      · exact q
      · exact absurd q.1 (by omega)
      · rw [q] at hq
        have h9 := (ai_sub (a := t + 2) (b := 2) rfl rfl (by omega)).symm.trans hq
        rw [Nat.add_sub_cancel] at h9
        exact absurd h9 (nI_ne_neg (by omega) (by decide))
    obtain ⟨hw, hc⟩ := hw9
    have hca1t := hca1
    rw [hw] at hca1t hO1 hM1
    refine lv_iconst (v := 0) hx hb dJ22_getLowestSetBit_13 (by decide) ?_
    refine lv_istore_n hx hb dJ22_getLowestSetBit_14 rfl hl (by decide) rfl (fun ls hl => ?_)
    have hl : lv_has ls 4 [(1, .int 0), (0, .ref a)] := hl
    refine lv_aload_n hx hb dJ22_getLowestSetBit_15 rfl (lv_at hl 1 rfl) ?_
    refine gw_get (C := RJ22) (T := TJ22) (N := 6) (v := .int 1) hx hb hts in_J22 hown hal hO1 0 (by decide) (hts _ q835) (fun _ h9 => h9) rfl dJ22_getLowestSetBit_16 ?_
    refine lv_if_ne (tgt := 28) hx hb dJ22_getLowestSetBit_19 (by decide) (fun c_19 => ?_) (fun c_19 => absurd c_19 (by decide))
    refine lv_iconst (v := 0) hx hb dJ22_getLowestSetBit_28 (by decide) ?_
    refine lv_istore_n hx hb dJ22_getLowestSetBit_29 rfl hl (by decide) rfl (fun ls hl => ?_)
    have hl : lv_has ls 4 [(2, .int 0), (1, .int 0), (0, .ref a)] := hl
    have loop : ∀ (n_ : Nat) (i : Nat), (i < n1) → (∀ j, j < i → d1 (n1 - 1 - j) = 0) → (n1 - i) < n_ → ∀ (H_2 : Heap) (locs : List Loc), va_S (fun q => q = a) H0 H_2 locs → gO z true RJ22 TJ22 6 H_2 a [.int 1, .ref m1, .int c11, .int c21, .int c31, .int c41] → gI z true .int H_2 m1 n1 (dI d1) → ∀ (ls : Array Slot), lv_has ls 4 [(2, .int (nI i)), (1, .int 0), (0, .ref a)] → W p l e { frames := 2, cells := 0, slots := 0, locals := 42 } s m [.ref a].toArray below meth c H_2 locs 0 0 (MQ below (gRi (fun q => q = a) H0 (fun r H1 => ∃ t, r = nI t ∧ isTz V1 t ∧ t < 100000 ∧ bI z w1 H1 a m1 n1 d1 V1)) [.ref a].toArray s 0 0 (fun q => q = a)) (F0 m 30 ls []) := by
      intro n_
      induction n_ with
      | zero => intro i hi hq hm_; exact absurd hm_ (Nat.not_lt_zero _)
      | succ n_ ih_loop =>
        intro i hi hq hm_ H_2 locs hS hO1 hM1 ls hl
        refine lv_aload_n hx hb dJ22_getLowestSetBit_30 rfl (lv_at hl 2 rfl) ?_
        refine lv_iload_n hx hb dJ22_getLowestSetBit_31 rfl (lv_at hl 0 rfl) ?_
        refine gcV1_iP hCF hwm hl.1 (m_getInt l z H_2 a i V1 true m1 n1 d1 (by omega) hV1 hn91 ⟨c11, c21, c31, c41, by rw [sg_pos (by omega)]; exact hO1, hM1, hd1, by rw [hv1]; omega, fun _ => h01, hn1, hca1t⟩ ) (lw_V q1366 q1368 qs26 q83 q1369) ydv_J22_getInt (hO1.recv hal) ⟨Nat.le_of_ble_eq_true rfl, Nat.le_of_ble_eq_true rfl⟩ ⟨Nat.le_of_ble_eq_true rfl, Nat.le_of_ble_eq_true rfl⟩ (Nat.le_of_ble_eq_true rfl) dJ22_getLowestSetBit_32 (fun r_3 hp => ?_)
        rw [if_pos hi] at hp
        subst hp
        refine lv_dup hx hb dJ22_getLowestSetBit_35 rfl ?_
        refine lv_istore_n hx hb dJ22_getLowestSetBit_36 rfl hl (by decide) rfl (fun ls hl => ?_)
        have hl : lv_has ls 4 [(3, .int (nI (d1 (n1 - 1 - i)))), (2, .int (nI i)), (1, .int 0), (0, .ref a)] := hl
        refine lv_if_ne (tgt := 46) hx hb dJ22_getLowestSetBit_37 (by decide) (fun c_37 => ?_) (fun c_37 => ?_)
        · skip
          have c_37 := mt (ai_eqU (a := (d1 (n1 - 1 - i))) (b := 0) (rfl) (rfl) (hd1 _) (by omega)).mpr c_37
          obtain ⟨tt, htt, hTt⟩ := tz_ex (Nat.pos_of_ne_zero c_37) (hd1 _)
          have hTz := tz_low hi hq hTt htt
          rw [hv1] at hTz
          have hntz := ntzI_ok (hd1 (n1 - 1 - i)) (Nat.pos_of_ne_zero c_37) hTt.1 hTt.2
          refine lv_iload_n hx hb dJ22_getLowestSetBit_46 rfl (lv_at hl 2 rfl) ?_
          refine lv_iload_n hx hb dJ22_getLowestSetBit_47 rfl (lv_at hl 1 rfl) ?_
          refine lv_iconst (v := 5) hx hb dJ22_getLowestSetBit_48 (by decide) ?_
          refine lv_ishl hx hb dJ22_getLowestSetBit_49 ?_
          refine g_topi (v := nI (i * 32)) (ai_shl (rfl) 5 (by decide) rfl) ?_
          refine lv_iload_n hx hb dJ22_getLowestSetBit_50 rfl (lv_at hl 0 rfl) ?_
          refine gcS1_iP hCF hwm hl.1 (m_ntzI l z H_2 (nI (d1 (n1 - 1 - i)))  ) (lw_S q1317 q388 q78 q389) yd_J17_numberOfTrailingZeros ⟨Nat.le_of_ble_eq_true rfl, Nat.le_of_ble_eq_true rfl⟩ ⟨Nat.le_of_ble_eq_true rfl, Nat.le_of_ble_eq_true rfl⟩ (Nat.le_of_ble_eq_true rfl) dJ22_getLowestSetBit_51 (fun r_4 hp => ?_)
          subst hp
          rw [hntz]
          refine lv_iadd hx hb dJ22_getLowestSetBit_54 ?_
          refine g_topi (v := nI ((i * 32) + tt)) (ai_add (a := (i * 32)) (b := tt) (rfl) (rfl)) ?_
          refine lv_iadd hx hb dJ22_getLowestSetBit_55 ?_
          refine g_topi (v := (nI (i * 32 + tt))) (by rw [show (0 : Int32) = nI 0 from rfl, nI_add, Nat.zero_add]) ?_
          refine lv_istore_n hx hb dJ22_getLowestSetBit_56 rfl hl (by decide) rfl (fun ls hl => ?_)
          have hl : lv_has ls 4 [(1, .int (nI (i * 32 + tt))), (3, .int (nI (d1 (n1 - 1 - i)))), (2, .int (nI i)), (0, .ref a)] := hl
          refine lv_aload_n hx hb dJ22_getLowestSetBit_57 rfl (lv_at hl 3 rfl) ?_
          refine lv_iload_n hx hb dJ22_getLowestSetBit_58 rfl (lv_at hl 0 rfl) ?_
          refine lv_iconst (v := 2) hx hb dJ22_getLowestSetBit_59 (by decide) ?_
          refine lv_iadd hx hb dJ22_getLowestSetBit_60 ?_
          refine g_topi (v := nI ((i * 32 + tt) + 2)) (ai_add (a := (i * 32 + tt)) (b := 2) (rfl) (rfl)) ?_
          refine gw_put (C := RJ22) (T := TJ22) (N := 6) (ty := .int) (v := .int (nI ((i * 32 + tt) + 2))) hx hb hts in_J22 tyJ22 tyJ22_ok nmJ22 (hts _ q819) hown hal hO1 hS (by have hsz := hS.1; (try dsimp only [gfr]) <;> omega) 4 (by decide) (hts _ q839) (fun _ h9 => h9) rfl (by decide +kernel) (rfl) (rfl) (Nat.le_of_ble_eq_true rfl) dJ22_getLowestSetBit_61 (fun H_5 locs h_new hch hS => ?_)
          have hM1 := hM1.ch hch (by omega)
          have sz_H_5 := hch.1
          clear hch
          have hO1 : gO z true RJ22 TJ22 6 H_5 a [.int 1, .ref m1, .int c11, .int c21, .int (nI ((i * 32 + tt) + 2)), .int c41] := h_new
          refine lv_iload_n hx hb dJ22_getLowestSetBit_64 rfl (lv_at hl 0 rfl) ?_
          refine g_iret hx hb hr hlocks hS (Nat.le_of_ble_eq_true rfl) (Nat.le_of_ble_eq_true rfl) ?_ dJ22_getLowestSetBit_65
          rw [hw]
          exact ⟨i * 32 + tt, rfl, hTz, by omega, _, _, _, _, by rw [sg_pos (by omega)]; exact hO1, hM1, hd1, by rw [hv1]; omega, fun _ => h01, hn1, hca1t.1, Or.inr (Or.inr ⟨i * 32 + tt, rfl, by rw [Int.natAbs_natCast]; exact hTz, by omega⟩)⟩
        · skip
          have c_37 := (ai_eqU (a := (d1 (n1 - 1 - i))) (b := 0) (rfl) (rfl) (hd1 _) (by omega)).mp c_37
          have hz9 : d1 (n1 - 1 - i) = 0 := c_37
          refine lv_iinc (k := 1) (v := (nI (i + 1))) hx hb dJ22_getLowestSetBit_40 hl rfl (ai_add (a := i) (b := 1) (rfl) (show Int32.ofInt 1 = nI 1 by decide)) (by decide) rfl (fun ls hl => ?_)
          have hl : lv_has ls 4 [(2, .int (nI (i + 1))), (3, .int (nI (d1 (n1 - 1 - i)))), (1, .int 0), (0, .ref a)] := hl
          refine lv_goto (tgt := 30) hx hb dJ22_getLowestSetBit_43 (by decide) ?_
          exact ih_loop (i + 1) (by refine Decidable.byContradiction fun q => ?_; exact h01 (by have := hz9; rwa [show n1 - 1 - i = 0 by omega] at this)) (fun j hj => by rcases Nat.lt_or_ge j i with q | q; exact hq j q; rw [show j = i by omega]; exact hz9) (by omega) H_2 _ hS hO1 hM1 ls (lv_sub hl [0, 2, 3] rfl)
    exact loop _ 0 hnp1 (fun j hj => by omega) (Nat.lt_succ_self _) H0 _ hS hO1 hM1 ls (lv_sub hl [0, 1, 2] rfl)
set_option maxHeartbeats 1000000 in
theorem m_bitLength (l : Launch) (z : State) (H0 : Heap) (a : Nat) (V1 : Nat) (w1 : Bool) (m1 n1 : Nat) (d1 : Nat → Nat) (hV1 : 0 < V1) (hn91 : n1 ≤ 20) (hb1 : bI z w1 H0 a m1 n1 d1 V1) : Met l yJ22_bitLength (ws_ yJ22_bitLength cJ22_bitLength 7 (some .int)) { frames := 2, cells := 0, slots := 0, locals := 41 } (gPc z H0 [.ref a]) (gRi (fun q => q = a) H0 (fun r H1 => ∃ b, r = nI b ∧ isBl V1 b ∧ b < 100000 ∧ bI z w1 H1 a m1 n1 d1 V1)) 0 0 (fun q => q = a) := by
  refine g_start (by decide +kernel) (Nat.le_of_ble_eq_true rfl) ?_
  intro p e s m below meth c ls hx hb hr hlocks hml hown hname hts hwm hl
  have hown : s.vm.findClass "java/math/BigInteger" = some m.cls := hown
  have hal : z.vm.Alike s.vm := hwm.alike
  have hCF : CallFix p m c cJ22_bitLength 7 s [.ref a].toArray lw_all "java/math/BigInteger" := ⟨hx, hb, hml, hown, hts⟩
  have hl : lv_has ls 7 [(0, .ref a)] := hl
  have hS : va_S (fun q => q = a) H0 H0 [] := va_S.rf
  have hb1x := hb1
  obtain ⟨c11, c21, c31, c41, hO1, hM1, hd1, hv1, h01, hn1, hca1⟩ := hb1
  rw [sg_pos (show (0 : Int) < (V1 : Int) by omega)] at hO1
  have hv1 : val d1 n1 = V1 := by rw [hv1]; omega
  have hnp1 := n_pos hv1 hV1
  have h01 := h01 hnp1
  have hma : m1 ≠ a := Ne.symm (gA.neO2 hal hM1 hO1 (hts _ q819))
  have lt_a := hO1.lt
  have lt_m1 := hM1.lt
  refine lv_aload_n hx hb dJ22_bitLength_0 rfl (lv_at hl 0 rfl) ?_
  refine gw_get (C := RJ22) (T := TJ22) (N := 6) (v := .int c21) hx hb hts in_J22 hown hal hO1 3 (by decide) (hts _ q838) (fun _ h9 => h9) rfl dJ22_bitLength_1 ?_
  refine lv_iconst (v := 1) hx hb dJ22_bitLength_4 (by decide) ?_
  refine lv_isub hx hb dJ22_bitLength_5 ?_
  refine lv_topi (fun x_1 ex_1 => ?_)
  refine lv_istore_n hx hb dJ22_bitLength_6 rfl hl (by decide) rfl (fun ls hl => ?_)
  have hl : lv_has ls 7 [(1, .int x_1), (0, .ref a)] := hl
  refine lv_iload_n hx hb dJ22_bitLength_7 rfl (lv_at hl 0 rfl) ?_
  refine lv_iconst (v := -1) hx hb dJ22_bitLength_8 (by decide) ?_
  refine lv_icmp_ne (tgt := 138) hx hb dJ22_bitLength_9 (by decide) (fun c_9 => ?_) (fun c_9 => ?_)
  · skip
    have c_9 : x_1 ≠ -1 := c_9
    refine lv_iload_n hx hb dJ22_bitLength_138 rfl (lv_at hl 0 rfl) ?_
    refine g_iret hx hb hr hlocks hS (Nat.le_of_ble_eq_true rfl) (Nat.le_of_ble_eq_true rfl) ?_ dJ22_bitLength_139
    rcases hca1.1 with q | ⟨b, q, q2, q3⟩
    · exact absurd (by rw [ex_1, q.2]; decide) c_9
    · exact ⟨b, by rw [ex_1, q]; exact ai_sub (a := b + 1) (b := 1) rfl rfl (by omega), by rwa [Int.natAbs_natCast] at q2, q3, hb1x⟩
  · skip
    have hq : c21 - 1 = -1 := by rw [← ex_1]; exact c_9
    have hw9 : w1 = true ∧ c21 = 0 := by
      rcases hca1.1 with q | ⟨b, q, q2, q3⟩
      · exact q
      · rw [q] at hq
        have h9 := (ai_sub (a := b + 1) (b := 1) rfl rfl (by omega)).symm.trans hq
        rw [Nat.add_sub_cancel] at h9
        exact absurd h9 (nI_ne_neg (by omega) (by decide))
    obtain ⟨hw, hc⟩ := hw9
    have hca1t := hca1
    rw [hw] at hca1t hO1 hM1
    refine lv_aload_n hx hb dJ22_bitLength_12 rfl (lv_at hl 1 rfl) ?_
    refine gw_get (C := RJ22) (T := TJ22) (N := 6) (v := .ref m1) hx hb hts in_J22 hown hal hO1 1 (by decide) (hts _ q837) (fun _ h9 => h9) rfl dJ22_bitLength_13 ?_
    refine lv_astore_n hx hb dJ22_bitLength_16 rfl hl (by decide) rfl (fun ls hl => ?_)
    have hl : lv_has ls 7 [(2, .ref m1), (1, .int x_1), (0, .ref a)] := hl
    refine lv_aload_n hx hb dJ22_bitLength_17 rfl (lv_at hl 0 rfl) ?_
    refine gw_len hx hb hal hM1 dJ22_bitLength_18 ?_
    refine lv_istore_n hx hb dJ22_bitLength_19 rfl hl (by decide) rfl (fun ls hl => ?_)
    have hl : lv_has ls 7 [(3, .int (nI n1)), (2, .ref m1), (1, .int x_1), (0, .ref a)] := hl
    refine lv_iload_n hx hb dJ22_bitLength_20 rfl (lv_at hl 0 rfl) ?_
    refine lv_if_ne (tgt := 29) hx hb dJ22_bitLength_21 (by decide) (fun c_21 => ?_) (fun c_21 => False.elim (by
      have c_21 := (ai_eq (a := n1) (b := 0) (rfl) (rfl) (by omega) (by omega)).mp c_21
      omega))
    have c_21 := mt (ai_eq (a := n1) (b := 0) (rfl) (rfl) (by omega) (by omega)).mpr c_21
    refine lv_iload_n hx hb dJ22_bitLength_29 rfl (lv_at hl 0 rfl) ?_
    refine lv_iconst (v := 1) hx hb dJ22_bitLength_30 (by decide) ?_
    refine lv_isub hx hb dJ22_bitLength_31 ?_
    refine g_topi (v := nI (n1 - 1)) (ai_sub (a := n1) (b := 1) (rfl) (rfl) (by omega)) ?_
    refine lv_iconst (v := 5) hx hb dJ22_bitLength_32 (by decide) ?_
    refine lv_ishl hx hb dJ22_bitLength_33 ?_
    refine g_topi (v := nI ((n1 - 1) * 32)) (ai_shl (rfl) 5 (by decide) rfl) ?_
    refine lv_aload_n hx hb dJ22_bitLength_34 rfl (lv_at hl 3 rfl) ?_
    refine gw_get (C := RJ22) (T := TJ22) (N := 6) (v := .ref m1) hx hb hts in_J22 hown hal hO1 1 (by decide) (hts _ q837) (fun _ h9 => h9) rfl dJ22_bitLength_35 ?_
    refine lv_iconst (v := 0) hx hb dJ22_bitLength_38 (by decide) ?_
    refine gw_iald hx hb hal hM1 0 (rfl) (by omega) (by omega) dJ22_bitLength_39 ?_
    refine g_topi (v := (nI (d1 0))) rfl ?_
    refine gcS1_iP hCF hwm hl.1 (m_blInt l z H0  (d1 0) (hd1 0) ) (lw_S q858 q859 q83 q860) yd_J22_bitLengthForInt ⟨Nat.le_of_ble_eq_true rfl, Nat.le_of_ble_eq_true rfl⟩ ⟨Nat.le_of_ble_eq_true rfl, Nat.le_of_ble_eq_true rfl⟩ (Nat.le_of_ble_eq_true rfl) dJ22_bitLength_40 (fun rb hp => ?_)
    obtain ⟨b0, hb01, hb02, hb03⟩ := hp
    subst hb02
    have hBl := bl_top hd1 hnp1 h01 hb03
    rw [hv1] at hBl
    refine lv_iadd hx hb dJ22_bitLength_43 ?_
    refine g_topi (v := nI (((n1 - 1) * 32) + b0)) (ai_add (a := ((n1 - 1) * 32)) (b := b0) (rfl) (rfl)) ?_
    refine lv_istore hx hb dJ22_bitLength_44 hl (by decide) rfl (fun ls hl => ?_)
    have hl : lv_has ls 7 [(4, .int (nI (((n1 - 1) * 32) + b0))), (3, .int (nI n1)), (2, .ref m1), (1, .int x_1), (0, .ref a)] := hl
    refine lv_aload_n hx hb dJ22_bitLength_46 rfl (lv_at hl 4 rfl) ?_
    refine gw_get (C := RJ22) (T := TJ22) (N := 6) (v := .int 1) hx hb hts in_J22 hown hal hO1 0 (by decide) (hts _ q835) (fun _ h9 => h9) rfl dJ22_bitLength_47 ?_
    refine lv_if_ge (tgt := 128) hx hb dJ22_bitLength_50 (by decide) (fun c_50 => ?_) (fun c_50 => absurd (by decide) c_50)
    refine lv_iload hx hb dJ22_bitLength_128 (lv_at hl 0 rfl) ?_
    refine lv_istore_n hx hb dJ22_bitLength_130 rfl hl (by decide) rfl (fun ls hl => ?_)
    have hl : lv_has ls 7 [(1, .int (nI (((n1 - 1) * 32) + b0))), (4, .int (nI (((n1 - 1) * 32) + b0))), (3, .int (nI n1)), (2, .ref m1), (0, .ref a)] := hl
    refine lv_aload_n hx hb dJ22_bitLength_131 rfl (lv_at hl 4 rfl) ?_
    refine lv_iload_n hx hb dJ22_bitLength_132 rfl (lv_at hl 0 rfl) ?_
    refine lv_iconst (v := 1) hx hb dJ22_bitLength_133 (by decide) ?_
    refine lv_iadd hx hb dJ22_bitLength_134 ?_
    refine g_topi (v := nI ((((n1 - 1) * 32) + b0) + 1)) (ai_add (a := (((n1 - 1) * 32) + b0)) (b := 1) (rfl) (rfl)) ?_
    refine gw_put (C := RJ22) (T := TJ22) (N := 6) (ty := .int) (v := .int (nI ((((n1 - 1) * 32) + b0) + 1))) hx hb hts in_J22 tyJ22 tyJ22_ok nmJ22 (hts _ q819) hown hal hO1 hS (by have hsz := hS.1; (try dsimp only [gfr]) <;> omega) 3 (by decide) (hts _ q838) (fun _ h9 => h9) rfl (by decide +kernel) (rfl) (rfl) (Nat.le_of_ble_eq_true rfl) dJ22_bitLength_135 (fun H_2 locs h_new hch hS => ?_)
    have hM1 := hM1.ch hch (by omega)
    have sz_H_2 := hch.1
    clear hch
    have hO1 : gO z true RJ22 TJ22 6 H_2 a [.int 1, .ref m1, .int c11, .int (nI ((((n1 - 1) * 32) + b0) + 1)), .int c31, .int c41] := h_new
    refine lv_iload_n hx hb dJ22_bitLength_138 rfl (lv_at hl 0 rfl) ?_
    refine g_iret hx hb hr hlocks hS (Nat.le_of_ble_eq_true rfl) (Nat.le_of_ble_eq_true rfl) ?_ dJ22_bitLength_139
    rw [hw]
    exact ⟨(n1 - 1) * 32 + b0, rfl, hBl.1, by omega, _, _, _, _, by rw [sg_pos (by omega)]; exact hO1, hM1, hd1, by rw [hv1]; omega, fun _ => h01, hn1, Or.inr ⟨(n1 - 1) * 32 + b0, rfl, by rw [Int.natAbs_natCast]; exact hBl.1, by omega⟩, hca1t.2⟩
