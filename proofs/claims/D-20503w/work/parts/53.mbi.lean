/-! ## walks (written by tools) -/
set_option maxRecDepth 100000
def dkwJ24_compare_4 : List UInt8 := [132, 4, 1, 132, 5, 1, 167, 255, 197, 3, 172]
abbrev dktJ24_compare_4 : List UInt8 := dkwJ24_compare_4 ++ []
def dkwJ24_compare_3 : List UInt8 := [18, 88, 96, 54, 7, 21, 6, 21, 7, 162, 0, 5, 2, 172, 21, 6, 21, 7, 164, 0, 5, 4, 172]
abbrev dktJ24_compare_3 : List UInt8 := dkwJ24_compare_3 ++ dktJ24_compare_4
def dkwJ24_compare_2 : List UInt8 := [42, 180, 0, 11, 96, 162, 0, 51, 42, 180, 0, 17, 21, 4, 46, 18, 88, 96, 54, 6, 45, 21, 5, 46]
abbrev dktJ24_compare_2 : List UInt8 := dkwJ24_compare_2 ++ dktJ24_compare_3
def dkwJ24_compare_1 : List UInt8 := [172, 43, 180, 0, 17, 78, 42, 180, 0, 11, 54, 4, 43, 180, 0, 11, 54, 5, 21, 4, 42, 180, 0, 21]
abbrev dktJ24_compare_1 : List UInt8 := dkwJ24_compare_1 ++ dktJ24_compare_2
def dkwJ24_compare_0 : List UInt8 := [43, 180, 0, 21, 61, 42, 180, 0, 21, 28, 162, 0, 5, 2, 172, 42, 180, 0, 21, 28, 164, 0, 5, 4]
abbrev dktJ24_compare_0 : List UInt8 := dkwJ24_compare_0 ++ dktJ24_compare_1
theorem dksJ24_compare_0 : cJ24_compare.data.toList.drop 0 = dktJ24_compare_0 := by decide +kernel
theorem dksJ24_compare_1 : cJ24_compare.data.toList.drop 24 = dktJ24_compare_1 := dk_seg dksJ24_compare_0 24 rfl rfl
theorem dksJ24_compare_2 : cJ24_compare.data.toList.drop 48 = dktJ24_compare_2 := dk_seg dksJ24_compare_1 24 rfl rfl
theorem dksJ24_compare_3 : cJ24_compare.data.toList.drop 72 = dktJ24_compare_3 := dk_seg dksJ24_compare_2 24 rfl rfl
theorem dksJ24_compare_4 : cJ24_compare.data.toList.drop 95 = dktJ24_compare_4 := dk_seg dksJ24_compare_3 23 rfl rfl
theorem dJ24_compare_0 : decode cJ24_compare 0 = .ok (.aload_n 1, 1) := dk_43 (dk_at dksJ24_compare_0 0 rfl rfl)
theorem dJ24_compare_1 : decode cJ24_compare 1 = .ok (.getfield 21, 3) := dk_180 0 21 (dk_at dksJ24_compare_0 1 rfl rfl)
theorem dJ24_compare_4 : decode cJ24_compare 4 = .ok (.istore_n 2, 1) := dk_61 (dk_at dksJ24_compare_0 4 rfl rfl)
theorem dJ24_compare_5 : decode cJ24_compare 5 = .ok (.aload_n 0, 1) := dk_42 (dk_at dksJ24_compare_0 5 rfl rfl)
theorem dJ24_compare_6 : decode cJ24_compare 6 = .ok (.getfield 21, 3) := dk_180 0 21 (dk_at dksJ24_compare_0 6 rfl rfl)
theorem dJ24_compare_9 : decode cJ24_compare 9 = .ok (.iload_n 2, 1) := dk_28 (dk_at dksJ24_compare_0 9 rfl rfl)
theorem dJ24_compare_10 : decode cJ24_compare 10 = .ok (.if_icmp .ge 5, 3) := dk_162 0 5 (dk_at dksJ24_compare_0 10 rfl rfl)
theorem dJ24_compare_13 : decode cJ24_compare 13 = .ok (.iconst (-1), 1) := dk_2 (dk_at dksJ24_compare_0 13 rfl rfl)
theorem dJ24_compare_14 : decode cJ24_compare 14 = .ok (.ireturn, 1) := dk_172 (dk_at dksJ24_compare_0 14 rfl rfl)
theorem dJ24_compare_15 : decode cJ24_compare 15 = .ok (.aload_n 0, 1) := dk_42 (dk_at dksJ24_compare_0 15 rfl rfl)
theorem dJ24_compare_16 : decode cJ24_compare 16 = .ok (.getfield 21, 3) := dk_180 0 21 (dk_at dksJ24_compare_0 16 rfl rfl)
theorem dJ24_compare_19 : decode cJ24_compare 19 = .ok (.iload_n 2, 1) := dk_28 (dk_at dksJ24_compare_0 19 rfl rfl)
theorem dJ24_compare_20 : decode cJ24_compare 20 = .ok (.if_icmp .le 5, 3) := dk_164 0 5 (dk_at dksJ24_compare_0 20 rfl rfl)
theorem dJ24_compare_23 : decode cJ24_compare 23 = .ok (.iconst 1, 1) := dk_4 (dk_at dksJ24_compare_0 23 rfl rfl)
theorem dJ24_compare_24 : decode cJ24_compare 24 = .ok (.ireturn, 1) := dk_172 (dk_at dksJ24_compare_1 0 rfl rfl)
theorem dJ24_compare_25 : decode cJ24_compare 25 = .ok (.aload_n 1, 1) := dk_43 (dk_at dksJ24_compare_1 1 rfl rfl)
theorem dJ24_compare_26 : decode cJ24_compare 26 = .ok (.getfield 17, 3) := dk_180 0 17 (dk_at dksJ24_compare_1 2 rfl rfl)
theorem dJ24_compare_29 : decode cJ24_compare 29 = .ok (.astore_n 3, 1) := dk_78 (dk_at dksJ24_compare_1 5 rfl rfl)
theorem dJ24_compare_30 : decode cJ24_compare 30 = .ok (.aload_n 0, 1) := dk_42 (dk_at dksJ24_compare_1 6 rfl rfl)
theorem dJ24_compare_31 : decode cJ24_compare 31 = .ok (.getfield 11, 3) := dk_180 0 11 (dk_at dksJ24_compare_1 7 rfl rfl)
theorem dJ24_compare_34 : decode cJ24_compare 34 = .ok (.istore 4, 2) := dk_54 4 (dk_at dksJ24_compare_1 10 rfl rfl)
theorem dJ24_compare_36 : decode cJ24_compare 36 = .ok (.aload_n 1, 1) := dk_43 (dk_at dksJ24_compare_1 12 rfl rfl)
theorem dJ24_compare_37 : decode cJ24_compare 37 = .ok (.getfield 11, 3) := dk_180 0 11 (dk_at dksJ24_compare_1 13 rfl rfl)
theorem dJ24_compare_40 : decode cJ24_compare 40 = .ok (.istore 5, 2) := dk_54 5 (dk_at dksJ24_compare_1 16 rfl rfl)
theorem dJ24_compare_42 : decode cJ24_compare 42 = .ok (.iload 4, 2) := dk_21 4 (dk_at dksJ24_compare_1 18 rfl rfl)
theorem dJ24_compare_44 : decode cJ24_compare 44 = .ok (.aload_n 0, 1) := dk_42 (dk_at dksJ24_compare_1 20 rfl rfl)
theorem dJ24_compare_45 : decode cJ24_compare 45 = .ok (.getfield 21, 3) := dk_180 0 21 (dk_at dksJ24_compare_1 21 rfl rfl)
theorem dJ24_compare_48 : decode cJ24_compare 48 = .ok (.aload_n 0, 1) := dk_42 (dk_at dksJ24_compare_2 0 rfl rfl)
theorem dJ24_compare_49 : decode cJ24_compare 49 = .ok (.getfield 11, 3) := dk_180 0 11 (dk_at dksJ24_compare_2 1 rfl rfl)
theorem dJ24_compare_52 : decode cJ24_compare 52 = .ok (.iadd, 1) := dk_96 (dk_at dksJ24_compare_2 4 rfl rfl)
theorem dJ24_compare_53 : decode cJ24_compare 53 = .ok (.if_icmp .ge 51, 3) := dk_162 0 51 (dk_at dksJ24_compare_2 5 rfl rfl)
theorem dJ24_compare_56 : decode cJ24_compare 56 = .ok (.aload_n 0, 1) := dk_42 (dk_at dksJ24_compare_2 8 rfl rfl)
theorem dJ24_compare_57 : decode cJ24_compare 57 = .ok (.getfield 17, 3) := dk_180 0 17 (dk_at dksJ24_compare_2 9 rfl rfl)
theorem dJ24_compare_60 : decode cJ24_compare 60 = .ok (.iload 4, 2) := dk_21 4 (dk_at dksJ24_compare_2 12 rfl rfl)
theorem dJ24_compare_62 : decode cJ24_compare 62 = .ok (.iaload, 1) := dk_46 (dk_at dksJ24_compare_2 14 rfl rfl)
theorem dJ24_compare_63 : decode cJ24_compare 63 = .ok (.ldc 88, 2) := dk_18 88 (dk_at dksJ24_compare_2 15 rfl rfl)
theorem dJ24_compare_65 : decode cJ24_compare 65 = .ok (.iadd, 1) := dk_96 (dk_at dksJ24_compare_2 17 rfl rfl)
theorem dJ24_compare_66 : decode cJ24_compare 66 = .ok (.istore 6, 2) := dk_54 6 (dk_at dksJ24_compare_2 18 rfl rfl)
theorem dJ24_compare_68 : decode cJ24_compare 68 = .ok (.aload_n 3, 1) := dk_45 (dk_at dksJ24_compare_2 20 rfl rfl)
theorem dJ24_compare_69 : decode cJ24_compare 69 = .ok (.iload 5, 2) := dk_21 5 (dk_at dksJ24_compare_2 21 rfl rfl)
theorem dJ24_compare_71 : decode cJ24_compare 71 = .ok (.iaload, 1) := dk_46 (dk_at dksJ24_compare_2 23 rfl rfl)
theorem dJ24_compare_72 : decode cJ24_compare 72 = .ok (.ldc 88, 2) := dk_18 88 (dk_at dksJ24_compare_3 0 rfl rfl)
theorem dJ24_compare_74 : decode cJ24_compare 74 = .ok (.iadd, 1) := dk_96 (dk_at dksJ24_compare_3 2 rfl rfl)
theorem dJ24_compare_75 : decode cJ24_compare 75 = .ok (.istore 7, 2) := dk_54 7 (dk_at dksJ24_compare_3 3 rfl rfl)
theorem dJ24_compare_77 : decode cJ24_compare 77 = .ok (.iload 6, 2) := dk_21 6 (dk_at dksJ24_compare_3 5 rfl rfl)
theorem dJ24_compare_79 : decode cJ24_compare 79 = .ok (.iload 7, 2) := dk_21 7 (dk_at dksJ24_compare_3 7 rfl rfl)
theorem dJ24_compare_81 : decode cJ24_compare 81 = .ok (.if_icmp .ge 5, 3) := dk_162 0 5 (dk_at dksJ24_compare_3 9 rfl rfl)
theorem dJ24_compare_84 : decode cJ24_compare 84 = .ok (.iconst (-1), 1) := dk_2 (dk_at dksJ24_compare_3 12 rfl rfl)
theorem dJ24_compare_85 : decode cJ24_compare 85 = .ok (.ireturn, 1) := dk_172 (dk_at dksJ24_compare_3 13 rfl rfl)
theorem dJ24_compare_86 : decode cJ24_compare 86 = .ok (.iload 6, 2) := dk_21 6 (dk_at dksJ24_compare_3 14 rfl rfl)
theorem dJ24_compare_88 : decode cJ24_compare 88 = .ok (.iload 7, 2) := dk_21 7 (dk_at dksJ24_compare_3 16 rfl rfl)
theorem dJ24_compare_90 : decode cJ24_compare 90 = .ok (.if_icmp .le 5, 3) := dk_164 0 5 (dk_at dksJ24_compare_3 18 rfl rfl)
theorem dJ24_compare_93 : decode cJ24_compare 93 = .ok (.iconst 1, 1) := dk_4 (dk_at dksJ24_compare_3 21 rfl rfl)
theorem dJ24_compare_94 : decode cJ24_compare 94 = .ok (.ireturn, 1) := dk_172 (dk_at dksJ24_compare_3 22 rfl rfl)
theorem dJ24_compare_95 : decode cJ24_compare 95 = .ok (.iinc 4 1, 3) := dk_132 4 1 (dk_at dksJ24_compare_4 0 rfl rfl)
theorem dJ24_compare_98 : decode cJ24_compare 98 = .ok (.iinc 5 1, 3) := dk_132 5 1 (dk_at dksJ24_compare_4 3 rfl rfl)
theorem dJ24_compare_101 : decode cJ24_compare 101 = .ok (.goto (-59), 3) := dk_167 255 197 (dk_at dksJ24_compare_4 6 rfl rfl)
theorem dJ24_compare_104 : decode cJ24_compare 104 = .ok (.iconst 0, 1) := dk_3 (dk_at dksJ24_compare_4 9 rfl rfl)
theorem dJ24_compare_105 : decode cJ24_compare 105 = .ok (.ireturn, 1) := dk_172 (dk_at dksJ24_compare_4 10 rfl rfl)
def dkwJ24_normalize_3 : List UInt8 := [180, 0, 21, 154, 0, 7, 3, 167, 0, 9, 42, 180, 0, 11, 29, 96, 181, 0, 11, 177]
abbrev dktJ24_normalize_3 : List UInt8 := dkwJ24_normalize_3 ++ []
def dkwJ24_normalize_2 : List UInt8 := [46, 153, 255, 242, 27, 42, 180, 0, 11, 100, 62, 42, 89, 180, 0, 21, 29, 100, 181, 0, 21, 42, 42]
abbrev dktJ24_normalize_2 : List UInt8 := dkwJ24_normalize_2 ++ dktJ24_normalize_3
def dkwJ24_normalize_1 : List UInt8 := [153, 0, 4, 177, 27, 42, 180, 0, 21, 96, 61, 132, 1, 1, 27, 28, 162, 0, 12, 42, 180, 0, 17, 27]
abbrev dktJ24_normalize_1 : List UInt8 := dkwJ24_normalize_1 ++ dktJ24_normalize_2
def dkwJ24_normalize_0 : List UInt8 := [42, 180, 0, 21, 154, 0, 9, 42, 3, 181, 0, 11, 177, 42, 180, 0, 11, 60, 42, 180, 0, 17, 27, 46]
abbrev dktJ24_normalize_0 : List UInt8 := dkwJ24_normalize_0 ++ dktJ24_normalize_1
theorem dksJ24_normalize_0 : cJ24_normalize.data.toList.drop 0 = dktJ24_normalize_0 := by decide +kernel
theorem dksJ24_normalize_1 : cJ24_normalize.data.toList.drop 24 = dktJ24_normalize_1 := dk_seg dksJ24_normalize_0 24 rfl rfl
theorem dksJ24_normalize_2 : cJ24_normalize.data.toList.drop 48 = dktJ24_normalize_2 := dk_seg dksJ24_normalize_1 24 rfl rfl
theorem dksJ24_normalize_3 : cJ24_normalize.data.toList.drop 71 = dktJ24_normalize_3 := dk_seg dksJ24_normalize_2 23 rfl rfl
theorem dJ24_normalize_0 : decode cJ24_normalize 0 = .ok (.aload_n 0, 1) := dk_42 (dk_at dksJ24_normalize_0 0 rfl rfl)
theorem dJ24_normalize_1 : decode cJ24_normalize 1 = .ok (.getfield 21, 3) := dk_180 0 21 (dk_at dksJ24_normalize_0 1 rfl rfl)
theorem dJ24_normalize_4 : decode cJ24_normalize 4 = .ok (.ifCond .ne 9, 3) := dk_154 0 9 (dk_at dksJ24_normalize_0 4 rfl rfl)
theorem dJ24_normalize_7 : decode cJ24_normalize 7 = .ok (.aload_n 0, 1) := dk_42 (dk_at dksJ24_normalize_0 7 rfl rfl)
theorem dJ24_normalize_8 : decode cJ24_normalize 8 = .ok (.iconst 0, 1) := dk_3 (dk_at dksJ24_normalize_0 8 rfl rfl)
theorem dJ24_normalize_9 : decode cJ24_normalize 9 = .ok (.putfield 11, 3) := dk_181 0 11 (dk_at dksJ24_normalize_0 9 rfl rfl)
theorem dJ24_normalize_12 : decode cJ24_normalize 12 = .ok (.return_, 1) := dk_177 (dk_at dksJ24_normalize_0 12 rfl rfl)
theorem dJ24_normalize_13 : decode cJ24_normalize 13 = .ok (.aload_n 0, 1) := dk_42 (dk_at dksJ24_normalize_0 13 rfl rfl)
theorem dJ24_normalize_14 : decode cJ24_normalize 14 = .ok (.getfield 11, 3) := dk_180 0 11 (dk_at dksJ24_normalize_0 14 rfl rfl)
theorem dJ24_normalize_17 : decode cJ24_normalize 17 = .ok (.istore_n 1, 1) := dk_60 (dk_at dksJ24_normalize_0 17 rfl rfl)
theorem dJ24_normalize_18 : decode cJ24_normalize 18 = .ok (.aload_n 0, 1) := dk_42 (dk_at dksJ24_normalize_0 18 rfl rfl)
theorem dJ24_normalize_19 : decode cJ24_normalize 19 = .ok (.getfield 17, 3) := dk_180 0 17 (dk_at dksJ24_normalize_0 19 rfl rfl)
theorem dJ24_normalize_22 : decode cJ24_normalize 22 = .ok (.iload_n 1, 1) := dk_27 (dk_at dksJ24_normalize_0 22 rfl rfl)
theorem dJ24_normalize_23 : decode cJ24_normalize 23 = .ok (.iaload, 1) := dk_46 (dk_at dksJ24_normalize_0 23 rfl rfl)
theorem dJ24_normalize_24 : decode cJ24_normalize 24 = .ok (.ifCond .eq 4, 3) := dk_153 0 4 (dk_at dksJ24_normalize_1 0 rfl rfl)
theorem dJ24_normalize_27 : decode cJ24_normalize 27 = .ok (.return_, 1) := dk_177 (dk_at dksJ24_normalize_1 3 rfl rfl)
theorem dJ24_normalize_28 : decode cJ24_normalize 28 = .ok (.iload_n 1, 1) := dk_27 (dk_at dksJ24_normalize_1 4 rfl rfl)
theorem dJ24_normalize_29 : decode cJ24_normalize 29 = .ok (.aload_n 0, 1) := dk_42 (dk_at dksJ24_normalize_1 5 rfl rfl)
theorem dJ24_normalize_30 : decode cJ24_normalize 30 = .ok (.getfield 21, 3) := dk_180 0 21 (dk_at dksJ24_normalize_1 6 rfl rfl)
theorem dJ24_normalize_33 : decode cJ24_normalize 33 = .ok (.iadd, 1) := dk_96 (dk_at dksJ24_normalize_1 9 rfl rfl)
theorem dJ24_normalize_34 : decode cJ24_normalize 34 = .ok (.istore_n 2, 1) := dk_61 (dk_at dksJ24_normalize_1 10 rfl rfl)
theorem dJ24_normalize_35 : decode cJ24_normalize 35 = .ok (.iinc 1 1, 3) := dk_132 1 1 (dk_at dksJ24_normalize_1 11 rfl rfl)
theorem dJ24_normalize_38 : decode cJ24_normalize 38 = .ok (.iload_n 1, 1) := dk_27 (dk_at dksJ24_normalize_1 14 rfl rfl)
theorem dJ24_normalize_39 : decode cJ24_normalize 39 = .ok (.iload_n 2, 1) := dk_28 (dk_at dksJ24_normalize_1 15 rfl rfl)
theorem dJ24_normalize_40 : decode cJ24_normalize 40 = .ok (.if_icmp .ge 12, 3) := dk_162 0 12 (dk_at dksJ24_normalize_1 16 rfl rfl)
theorem dJ24_normalize_43 : decode cJ24_normalize 43 = .ok (.aload_n 0, 1) := dk_42 (dk_at dksJ24_normalize_1 19 rfl rfl)
theorem dJ24_normalize_44 : decode cJ24_normalize 44 = .ok (.getfield 17, 3) := dk_180 0 17 (dk_at dksJ24_normalize_1 20 rfl rfl)
theorem dJ24_normalize_47 : decode cJ24_normalize 47 = .ok (.iload_n 1, 1) := dk_27 (dk_at dksJ24_normalize_1 23 rfl rfl)
theorem dJ24_normalize_48 : decode cJ24_normalize 48 = .ok (.iaload, 1) := dk_46 (dk_at dksJ24_normalize_2 0 rfl rfl)
theorem dJ24_normalize_49 : decode cJ24_normalize 49 = .ok (.ifCond .eq (-14), 3) := dk_153 255 242 (dk_at dksJ24_normalize_2 1 rfl rfl)
theorem dJ24_normalize_52 : decode cJ24_normalize 52 = .ok (.iload_n 1, 1) := dk_27 (dk_at dksJ24_normalize_2 4 rfl rfl)
theorem dJ24_normalize_53 : decode cJ24_normalize 53 = .ok (.aload_n 0, 1) := dk_42 (dk_at dksJ24_normalize_2 5 rfl rfl)
theorem dJ24_normalize_54 : decode cJ24_normalize 54 = .ok (.getfield 11, 3) := dk_180 0 11 (dk_at dksJ24_normalize_2 6 rfl rfl)
theorem dJ24_normalize_57 : decode cJ24_normalize 57 = .ok (.isub, 1) := dk_100 (dk_at dksJ24_normalize_2 9 rfl rfl)
theorem dJ24_normalize_58 : decode cJ24_normalize 58 = .ok (.istore_n 3, 1) := dk_62 (dk_at dksJ24_normalize_2 10 rfl rfl)
theorem dJ24_normalize_59 : decode cJ24_normalize 59 = .ok (.aload_n 0, 1) := dk_42 (dk_at dksJ24_normalize_2 11 rfl rfl)
theorem dJ24_normalize_60 : decode cJ24_normalize 60 = .ok (.dup, 1) := dk_89 (dk_at dksJ24_normalize_2 12 rfl rfl)
theorem dJ24_normalize_61 : decode cJ24_normalize 61 = .ok (.getfield 21, 3) := dk_180 0 21 (dk_at dksJ24_normalize_2 13 rfl rfl)
theorem dJ24_normalize_64 : decode cJ24_normalize 64 = .ok (.iload_n 3, 1) := dk_29 (dk_at dksJ24_normalize_2 16 rfl rfl)
theorem dJ24_normalize_65 : decode cJ24_normalize 65 = .ok (.isub, 1) := dk_100 (dk_at dksJ24_normalize_2 17 rfl rfl)
theorem dJ24_normalize_66 : decode cJ24_normalize 66 = .ok (.putfield 21, 3) := dk_181 0 21 (dk_at dksJ24_normalize_2 18 rfl rfl)
theorem dJ24_normalize_69 : decode cJ24_normalize 69 = .ok (.aload_n 0, 1) := dk_42 (dk_at dksJ24_normalize_2 21 rfl rfl)
theorem dJ24_normalize_70 : decode cJ24_normalize 70 = .ok (.aload_n 0, 1) := dk_42 (dk_at dksJ24_normalize_2 22 rfl rfl)
theorem dJ24_normalize_71 : decode cJ24_normalize 71 = .ok (.getfield 21, 3) := dk_180 0 21 (dk_at dksJ24_normalize_3 0 rfl rfl)
theorem dJ24_normalize_74 : decode cJ24_normalize 74 = .ok (.ifCond .ne 7, 3) := dk_154 0 7 (dk_at dksJ24_normalize_3 3 rfl rfl)
theorem dJ24_normalize_77 : decode cJ24_normalize 77 = .ok (.iconst 0, 1) := dk_3 (dk_at dksJ24_normalize_3 6 rfl rfl)
theorem dJ24_normalize_78 : decode cJ24_normalize 78 = .ok (.goto 9, 3) := dk_167 0 9 (dk_at dksJ24_normalize_3 7 rfl rfl)
theorem dJ24_normalize_81 : decode cJ24_normalize 81 = .ok (.aload_n 0, 1) := dk_42 (dk_at dksJ24_normalize_3 10 rfl rfl)
theorem dJ24_normalize_82 : decode cJ24_normalize 82 = .ok (.getfield 11, 3) := dk_180 0 11 (dk_at dksJ24_normalize_3 11 rfl rfl)
theorem dJ24_normalize_85 : decode cJ24_normalize 85 = .ok (.iload_n 3, 1) := dk_29 (dk_at dksJ24_normalize_3 14 rfl rfl)
theorem dJ24_normalize_86 : decode cJ24_normalize 86 = .ok (.iadd, 1) := dk_96 (dk_at dksJ24_normalize_3 15 rfl rfl)
theorem dJ24_normalize_87 : decode cJ24_normalize 87 = .ok (.putfield 11, 3) := dk_181 0 11 (dk_at dksJ24_normalize_3 16 rfl rfl)
theorem dJ24_normalize_90 : decode cJ24_normalize 90 = .ok (.return_, 1) := dk_177 (dk_at dksJ24_normalize_3 19 rfl rfl)
def dkwJ24_clear_1 : List UInt8 := [180, 0, 17, 27, 3, 79, 132, 1, 1, 167, 255, 241, 177]
abbrev dktJ24_clear_1 : List UInt8 := dkwJ24_clear_1 ++ []
def dkwJ24_clear_0 : List UInt8 := [42, 42, 3, 90, 181, 0, 21, 181, 0, 11, 3, 60, 42, 180, 0, 17, 190, 61, 27, 28, 162, 0, 16, 42]
abbrev dktJ24_clear_0 : List UInt8 := dkwJ24_clear_0 ++ dktJ24_clear_1
theorem dksJ24_clear_0 : cJ24_clear.data.toList.drop 0 = dktJ24_clear_0 := by decide +kernel
theorem dksJ24_clear_1 : cJ24_clear.data.toList.drop 24 = dktJ24_clear_1 := dk_seg dksJ24_clear_0 24 rfl rfl
theorem dJ24_clear_0 : decode cJ24_clear 0 = .ok (.aload_n 0, 1) := dk_42 (dk_at dksJ24_clear_0 0 rfl rfl)
theorem dJ24_clear_1 : decode cJ24_clear 1 = .ok (.aload_n 0, 1) := dk_42 (dk_at dksJ24_clear_0 1 rfl rfl)
theorem dJ24_clear_2 : decode cJ24_clear 2 = .ok (.iconst 0, 1) := dk_3 (dk_at dksJ24_clear_0 2 rfl rfl)
theorem dJ24_clear_3 : decode cJ24_clear 3 = .ok (.dup_x1, 1) := dk_90 (dk_at dksJ24_clear_0 3 rfl rfl)
theorem dJ24_clear_4 : decode cJ24_clear 4 = .ok (.putfield 21, 3) := dk_181 0 21 (dk_at dksJ24_clear_0 4 rfl rfl)
theorem dJ24_clear_7 : decode cJ24_clear 7 = .ok (.putfield 11, 3) := dk_181 0 11 (dk_at dksJ24_clear_0 7 rfl rfl)
theorem dJ24_clear_10 : decode cJ24_clear 10 = .ok (.iconst 0, 1) := dk_3 (dk_at dksJ24_clear_0 10 rfl rfl)
theorem dJ24_clear_11 : decode cJ24_clear 11 = .ok (.istore_n 1, 1) := dk_60 (dk_at dksJ24_clear_0 11 rfl rfl)
theorem dJ24_clear_12 : decode cJ24_clear 12 = .ok (.aload_n 0, 1) := dk_42 (dk_at dksJ24_clear_0 12 rfl rfl)
theorem dJ24_clear_13 : decode cJ24_clear 13 = .ok (.getfield 17, 3) := dk_180 0 17 (dk_at dksJ24_clear_0 13 rfl rfl)
theorem dJ24_clear_16 : decode cJ24_clear 16 = .ok (.arraylength, 1) := dk_190 (dk_at dksJ24_clear_0 16 rfl rfl)
theorem dJ24_clear_17 : decode cJ24_clear 17 = .ok (.istore_n 2, 1) := dk_61 (dk_at dksJ24_clear_0 17 rfl rfl)
theorem dJ24_clear_18 : decode cJ24_clear 18 = .ok (.iload_n 1, 1) := dk_27 (dk_at dksJ24_clear_0 18 rfl rfl)
theorem dJ24_clear_19 : decode cJ24_clear 19 = .ok (.iload_n 2, 1) := dk_28 (dk_at dksJ24_clear_0 19 rfl rfl)
theorem dJ24_clear_20 : decode cJ24_clear 20 = .ok (.if_icmp .ge 16, 3) := dk_162 0 16 (dk_at dksJ24_clear_0 20 rfl rfl)
theorem dJ24_clear_23 : decode cJ24_clear 23 = .ok (.aload_n 0, 1) := dk_42 (dk_at dksJ24_clear_0 23 rfl rfl)
theorem dJ24_clear_24 : decode cJ24_clear 24 = .ok (.getfield 17, 3) := dk_180 0 17 (dk_at dksJ24_clear_1 0 rfl rfl)
theorem dJ24_clear_27 : decode cJ24_clear 27 = .ok (.iload_n 1, 1) := dk_27 (dk_at dksJ24_clear_1 3 rfl rfl)
theorem dJ24_clear_28 : decode cJ24_clear 28 = .ok (.iconst 0, 1) := dk_3 (dk_at dksJ24_clear_1 4 rfl rfl)
theorem dJ24_clear_29 : decode cJ24_clear 29 = .ok (.iastore, 1) := dk_79 (dk_at dksJ24_clear_1 5 rfl rfl)
theorem dJ24_clear_30 : decode cJ24_clear 30 = .ok (.iinc 1 1, 3) := dk_132 1 1 (dk_at dksJ24_clear_1 6 rfl rfl)
theorem dJ24_clear_33 : decode cJ24_clear 33 = .ok (.goto (-15), 3) := dk_167 255 241 (dk_at dksJ24_clear_1 9 rfl rfl)
theorem dJ24_clear_36 : decode cJ24_clear 36 = .ok (.return_, 1) := dk_177 (dk_at dksJ24_clear_1 12 rfl rfl)
def dkwJ13_fill_2_0 : List UInt8 := [3, 61, 42, 190, 62, 28, 29, 162, 0, 13, 42, 28, 27, 79, 132, 2, 1, 167, 255, 244, 177]
abbrev dktJ13_fill_2_0 : List UInt8 := dkwJ13_fill_2_0 ++ []
theorem dksJ13_fill_2_0 : cJ13_fill_2.data.toList.drop 0 = dktJ13_fill_2_0 := by decide +kernel
theorem dJ13_fill_2_0 : decode cJ13_fill_2 0 = .ok (.iconst 0, 1) := dk_3 (dk_at dksJ13_fill_2_0 0 rfl rfl)
theorem dJ13_fill_2_1 : decode cJ13_fill_2 1 = .ok (.istore_n 2, 1) := dk_61 (dk_at dksJ13_fill_2_0 1 rfl rfl)
theorem dJ13_fill_2_2 : decode cJ13_fill_2 2 = .ok (.aload_n 0, 1) := dk_42 (dk_at dksJ13_fill_2_0 2 rfl rfl)
theorem dJ13_fill_2_3 : decode cJ13_fill_2 3 = .ok (.arraylength, 1) := dk_190 (dk_at dksJ13_fill_2_0 3 rfl rfl)
theorem dJ13_fill_2_4 : decode cJ13_fill_2 4 = .ok (.istore_n 3, 1) := dk_62 (dk_at dksJ13_fill_2_0 4 rfl rfl)
theorem dJ13_fill_2_5 : decode cJ13_fill_2 5 = .ok (.iload_n 2, 1) := dk_28 (dk_at dksJ13_fill_2_0 5 rfl rfl)
theorem dJ13_fill_2_6 : decode cJ13_fill_2 6 = .ok (.iload_n 3, 1) := dk_29 (dk_at dksJ13_fill_2_0 6 rfl rfl)
theorem dJ13_fill_2_7 : decode cJ13_fill_2 7 = .ok (.if_icmp .ge 13, 3) := dk_162 0 13 (dk_at dksJ13_fill_2_0 7 rfl rfl)
theorem dJ13_fill_2_10 : decode cJ13_fill_2 10 = .ok (.aload_n 0, 1) := dk_42 (dk_at dksJ13_fill_2_0 10 rfl rfl)
theorem dJ13_fill_2_11 : decode cJ13_fill_2 11 = .ok (.iload_n 2, 1) := dk_28 (dk_at dksJ13_fill_2_0 11 rfl rfl)
theorem dJ13_fill_2_12 : decode cJ13_fill_2 12 = .ok (.iload_n 1, 1) := dk_27 (dk_at dksJ13_fill_2_0 12 rfl rfl)
theorem dJ13_fill_2_13 : decode cJ13_fill_2 13 = .ok (.iastore, 1) := dk_79 (dk_at dksJ13_fill_2_0 13 rfl rfl)
theorem dJ13_fill_2_14 : decode cJ13_fill_2 14 = .ok (.iinc 2 1, 3) := dk_132 2 1 (dk_at dksJ13_fill_2_0 14 rfl rfl)
theorem dJ13_fill_2_17 : decode cJ13_fill_2 17 = .ok (.goto (-12), 3) := dk_167 255 244 (dk_at dksJ13_fill_2_0 17 rfl rfl)
theorem dJ13_fill_2_20 : decode cJ13_fill_2 20 = .ok (.return_, 1) := dk_177 (dk_at dksJ13_fill_2_0 20 rfl rfl)
/-! ### exact arrays -/
/-- the array's class and size are the very ones -/
def gE (z : State) (ty : FieldType) (H : Heap) (b n : Nat) : Prop := ∃ cell : Cell, H[b]? = some cell ∧ cell.slots.size = n ∧ z.vm.findClass ("[" ++ ty.toString) = some cell.cls
theorem gA.exa {z : State} {ty : FieldType} {H : Heap} {b n : Nat} {f : Nat → Value} (h : gA z true ty H b n f) : gE z ty H b n := by
  obtain ⟨cell, h1, -, -, -, -, -, h7⟩ := h
  exact ⟨cell, h1, (h7 rfl).2.1, (h7 rfl).2.2⟩
theorem gE.lt {z : State} {ty : FieldType} {H : Heap} {b n : Nat} (h : gE z ty H b n) : b < H.size := by
  obtain ⟨cell, h1, -⟩ := h
  exact (Array.getElem?_eq_some_iff.mp h1).1
theorem gE.to {z : State} {ty : FieldType} {H H1 : Heap} {b n : Nat} (h : gE z ty H b n) (e : H1[b]? = H[b]?) : gE z ty H1 b n := by
  obtain ⟨cell, h1, h2⟩ := h
  exact ⟨cell, by rw [e]; exact h1, h2⟩
theorem gE.cur {z : State} {ty : FieldType} {A : Nat → Prop} {H0 H : Heap} {locs : List Loc} {b n : Nat} (h : gE z ty H0 b n) (hS : va_S A H0 H locs) (hb : ¬ A b) : gE z ty H b n := h.to (hS.2.1 b h.lt hb)
section GRE
variable {p : Program} {l : Launch} {e : Env} {R : Room} {s : State} {m : MethodId} {args : Array Value} {below : List Frame} {meth : Method} {c : Code} {H : Heap} {locs : List Loc} {cells slots : Nat} {Q : State → Prop}
variable {cc : ByteArray} {pc : Nat} {ls : Array Slot} {rest : List Value} {z : State} {A : Nat → Prop} {a n : Nat} {H0 : Heap} {wf : Bool}
theorem gw_cloneE (hexec : p.tables.exec = Jvm.exec) (hb : c.code = cc) (hml : c.maxLocals = ls.size) (hal : z.vm.Alike s.vm) {own ad : String} {index : Nat} (hown : s.vm.findClass own = some m.cls)
    (hlink : (Cond.methodLink own index ⟨ad, "clone", "()Ljava/lang/Object;"⟩).before args s = true) (hsame : (Cond.sameMethod ad "java/lang/Object" "clone" "()Ljava/lang/Object;").before args s = true)
    (hnat : (Cond.native ⟨"java/lang/Object", "clone", "()Ljava/lang/Object;"⟩).before args s = true) (hinst : (Cond.instanceMethod ⟨"java/lang/Object", "clone", "()Ljava/lang/Object;"⟩).before args s = true)
    (hsel : (Cond.selects ad ⟨ad, "clone", "()Ljava/lang/Object;"⟩ ⟨"java/lang/Object", "clone", "()Ljava/lang/Object;"⟩).before args s = true) (hcl : (Cond.castable ad "java/lang/Cloneable").before args s = true)
    {ty : FieldType} (had : ad = "[" ++ ty.toString) {f : Nat → Value} {wf : Bool} (hX : gA z wf ty H a n f) (hE : gE z ty H a n) (hS : va_S A H0 H locs) (hfit : ∀ i : Nat, i < n → fits ty (f i) = true)
    (hframes : 1 ≤ R.frames) (hlocals : (rest.map fun v => v.category).sum + 14 ≤ R.locals) (hcells : cells + 1 ≤ R.cells) (hslots : slots + n ≤ R.slots) (hdg : decode cc pc = .ok (.invokevirtual index, 3))
    (kk : ∀ (q : Nat) (H1 : Heap), q = H.size → H1.size = q + 1 → gx H H1 → gA z true ty H1 q n f → va_S A H0 H1 locs →
      W p l e R s m args below meth c H1 locs (cells + 1) (slots + n) Q (F0 m (pc + 3) ls (.ref q :: rest))) : W p l e R s m args below meth c H locs cells slots Q (F0 m pc ls (.ref a :: rest)) := by
  obtain ⟨cell, h1, h2, h3, h4, h5, h6, -⟩ := hX
  obtain ⟨cell9, g1, hsz, hcn⟩ := hE
  cases h1.symm.trans g1
  have hnm : s.vm.findClass ad = some cell.cls := by
    rw [had, hal.findClass]
    exact hcn
  obtain ⟨c0, t0', f1, f2, f3⟩ := Cond.castable_spec hcl
  cases hnm.symm.trans f1
  intro T hT X
  have hcellT : T.heap[a]? = some cell := by rw [hT]; exact h1
  obtain ⟨-, kA, hkA, comp, hkind⟩ := State.isArrayOf_alike (hal.trans X.warmed.alike) h2
  obtain ⟨-, kS, hkS, compS, hkindS⟩ := State.isArrayOf_alike hal h2
  obtain ⟨vm', X', st⟩ := X.cloneArray hexec hown hlink hsame hnat hinst hsel (a := a) (cell := cell) hcellT h2.1 h3 hnm f2 f3
    (fun i v hv => by
      have hk' : T.vm.classes[cell.cls]? = some kA := hkA
      have hi : i < n := by
        have := (Array.getElem?_eq_some_iff.mp hv).1
        omega
      have e := h6 i hi
      rw [hv] at e
      cases e
      simpa [State.fitsSlot, State.slotType?, hk', hkind] using hfit i hi)
    (g := F0 m pc ls (.ref a :: rest)) rfl (by rw [hml]) rfl (by rw [hb]; exact hdg) hframes (by show 2 * 0 + _ + 14 ≤ _; omega) hcells (by rw [hsz]; exact hslots) (hloader := Vm.clonesLoader_of_array hkS hkindS)
  rw [hsz] at X'
  generalize hH1 : H.push ({ cls := cell.cls, slots := cell.slots } : Cell) = H1
  have z1 : H1.size = H.size + 1 := by rw [← hH1, Array.size_push]
  have e1 : H1[H.size]? = some ({ cls := cell.cls, slots := cell.slots } : Cell) := by rw [← hH1, Array.getElem?_push_size]
  have o1 : ∀ q : Nat, q < H.size → H1[q]? = H[q]? := fun q hq => by rw [← hH1, Array.getElem?_push, if_neg (Nat.ne_of_lt hq)]
  have hx : gx H H1 := ⟨by omega, o1⟩
  obtain ⟨t, b1, b2⟩ := kk H.size H1 rfl z1 hx ⟨_, e1, ⟨fun k h => (by cases h), h2.2⟩, (by intro h; cases h), h4, h5, h6, fun _ => ⟨rfl, hsz, hcn⟩⟩ (hS.gx hx) _ (by rw [← hH1, ← hT]; rfl) X'
  refine ⟨t, ?_, b2⟩
  have e := st t
  rw [hT] at e
  exact e b1
end GRE

set_option maxHeartbeats 1000000 in
theorem m_copyRangeE (l : Launch) (z : State) (H0 : Heap) (b : Nat) (u v n : Nat) (w : Bool) (d : Nat → Nat) (hu : u ≤ v) (hv : v ≤ n) (hn : n < 134217728) (hb0 : gI z w .int H0 b n (dI d)) (hbE : gE z .int H0 b n) (hz : zW z) : Met l yJ13_copyOfRange_2 (ws_ yJ13_copyOfRange_2 cJ13_copyOfRange_2 3 (some (.array .int))) { frames := 2, cells := 1, slots := (v - u), locals := 64 } (gPc z H0 [.ref b, .int (nI u), .int (nI v)]) (gRr (gfr H0) H0 (fun r H1 => H0.size ≤ r ∧ gI z true .int H1 r (v - u) (dI (fun i => d (u + i))))) 1 (v - u) (gfr H0) := by
  refine g_start (by decide +kernel) (Nat.le_of_ble_eq_true rfl) ?_
  intro p e s m below meth c ls hx hb hr hlocks hml hown hname hts hwm hl
  have hown : s.vm.findClass "java/util/Arrays" = some m.cls := hown
  have hal : z.vm.Alike s.vm := hwm.alike
  have hCF : CallFix p m c cJ13_copyOfRange_2 3 s [.ref b, .int (nI u), .int (nI v)].toArray lw_all "java/util/Arrays" := ⟨hx, hb, hml, hown, hts⟩
  have hl : lv_has ls 3 [(0, .ref b), (1, .int (nI u)), (2, .int (nI v))] := hl
  have hS : va_S (gfr H0) H0 H0 [] := va_S.rf
  have hbL := hbE.lt
  have lt_b := hb0.lt
  refine lv_iload_n hx hb dJ13_copyOfRange_2_0 rfl (lv_at hl 1 rfl) ?_
  refine lv_if_ne (tgt := 10) hx hb dJ13_copyOfRange_2_1 (by decide) (fun c_1 => ?_) (fun c_1 => ?_)
  · skip
    have c_1 := mt (ai_eq (a := u) (b := 0) (rfl) (rfl) (by omega) (by omega)).mpr c_1
    refine lv_aload_n hx hb dJ13_copyOfRange_2_10 rfl (lv_at hl 0 rfl) ?_
    refine lv_iload_n hx hb dJ13_copyOfRange_2_11 rfl (lv_at hl 1 rfl) ?_
    refine lv_iload_n hx hb dJ13_copyOfRange_2_12 rfl (lv_at hl 2 rfl) ?_
    have hsz := hS.1
    refine gcS3_r hCF hwm hl.1 (m_copyRangeI6 l z H0 b u v n w d hu hv hn hb0 ) (lw_S q1019 q1020 q73 q1021) yd_J13_copyOfRangeInt hS (fun q h => Nat.le_trans hS.1 h) ⟨Nat.le_of_ble_eq_true rfl, Nat.le_of_ble_eq_true rfl⟩ ⟨by first | omega | (dsimp only; omega), by first | omega | (dsimp only; omega)⟩ (Nat.le_of_ble_eq_true rfl) dJ13_copyOfRange_2_13 (fun rc H_1 locs hp hex hS => ?_)
    have sz_H_1 : H0.size ≤ H_1.size := hex.1
    have hgx := hex.x
    clear hex
    have hb0 := hb0.x hgx
    have hN := hp
    refine g_aret hx hb hr hlocks (Or.inr ⟨_, rfl⟩) hS (by first | omega | (dsimp only; omega)) (by first | omega | (dsimp only; omega)) ?_ dJ13_copyOfRange_2_16
    exact hN
  · skip
    have c_1 := (ai_eq (a := u) (b := 0) (rfl) (rfl) (by omega) (by omega)).mp c_1
    refine lv_iload_n hx hb dJ13_copyOfRange_2_4 rfl (lv_at hl 2 rfl) ?_
    refine lv_aload_n hx hb dJ13_copyOfRange_2_5 rfl (lv_at hl 0 rfl) ?_
    refine gw_len hx hb hal hb0 dJ13_copyOfRange_2_6 ?_
    refine lv_icmp_eq (tgt := 17) hx hb dJ13_copyOfRange_2_7 (by decide) (fun c_7 => ?_) (fun c_7 => ?_)
    · skip
      have c_7 := (ai_eq (a := v) (b := n) (rfl) (rfl) (by omega) (by omega)).mp c_7
      refine lv_aload_n hx hb dJ13_copyOfRange_2_17 rfl (lv_at hl 0 rfl) ?_
      refine gw_cloneE (ty := .int) hx hb (hml.trans hl.1.symm) hal hown (hts _ q1022) (hts _ q1023) (hts _ q278) (hts _ q279) (hts _ q1024) (va_Nw.use rfl (va_Nw.warmC hwm hz.2.1)) rfl hb0 (hbE.cur hS (by dsimp only [gfr]; omega)) hS (fun _ _ => rfl) (Nat.le_of_ble_eq_true rfl) (Nat.le_of_ble_eq_true rfl) (by first | omega | (dsimp only; omega)) (by first | omega | (dsimp only; omega)) dJ13_copyOfRange_2_18 (fun q_2 H_3 eq_2 zq_2 hgx h_q_2 hS => ?_)
      have hb0 := hb0.x hgx
      have h_q_2 : gI z true .int H_3 q_2 n (dI d) := h_q_2
      refine gw_castA hx hb hal hown (hts _ q1026) h_q_2 rfl dJ13_copyOfRange_2_21 ?_
      refine g_aret hx hb hr hlocks (Or.inr ⟨_, rfl⟩) hS (by first | omega | (dsimp only; omega)) (by first | omega | (dsimp only; omega)) ?_ dJ13_copyOfRange_2_24
      have c_7 : v = n := by omega
      have c_1 : u = 0 := by omega
      subst c_7 c_1
      refine ⟨by omega, ?_⟩
      refine gA.cg h_q_2 ?_
      intro j hj
      show Value.int (dI d j) = Value.int (nI (d (0 + j)))
      rw [Nat.zero_add]
      rfl
    · skip
      have c_7 := mt (ai_eq (a := v) (b := n) (rfl) (rfl) (by omega) (by omega)).mpr c_7
      refine lv_aload_n hx hb dJ13_copyOfRange_2_10 rfl (lv_at hl 0 rfl) ?_
      refine lv_iload_n hx hb dJ13_copyOfRange_2_11 rfl (lv_at hl 1 rfl) ?_
      refine lv_iload_n hx hb dJ13_copyOfRange_2_12 rfl (lv_at hl 2 rfl) ?_
      have hsz := hS.1
      refine gcS3_r hCF hwm hl.1 (m_copyRangeI6 l z H0 b u v n w d hu hv hn hb0 ) (lw_S q1019 q1020 q73 q1021) yd_J13_copyOfRangeInt hS (fun q h => Nat.le_trans hS.1 h) ⟨Nat.le_of_ble_eq_true rfl, Nat.le_of_ble_eq_true rfl⟩ ⟨by first | omega | (dsimp only; omega), by first | omega | (dsimp only; omega)⟩ (Nat.le_of_ble_eq_true rfl) dJ13_copyOfRange_2_13 (fun rc H_4 locs hp hex hS => ?_)
      have sz_H_4 : H0.size ≤ H_4.size := hex.1
      have hgx := hex.x
      clear hex
      have hb0 := hb0.x hgx
      have hN := hp
      refine g_aret hx hb hr hlocks (Or.inr ⟨_, rfl⟩) hS (by first | omega | (dsimp only; omega)) (by first | omega | (dsimp only; omega)) ?_ dJ13_copyOfRange_2_16
      exact hN
set_option maxHeartbeats 1000000 in
theorem m_mCmp (l : Launch) (z : State) (H0 : Heap) (a : Nat) (b : Nat) (va vb n m0 na nb : Nat) (wa wb xa xb : Bool) (d ee : Nat → Nat) (hnn : n ≤ na) (hmm : m0 ≤ nb) (hna9 : na < 1000000) (hnb9 : nb < 1000000) (hd : ∀ i, d i < 4294967296) (he : ∀ i, ee i < 4294967296) (hd0 : 0 < n → d 0 ≠ 0) (he0 : 0 < m0 → ee 0 ≠ 0) (hOa : gO z wa RJ24 TJ24 3 H0 a [.ref va, .int (nI n), .int 0]) (hA : gI z xa .int H0 va na (dI d)) (hOb : gO z wb RJ24 TJ24 3 H0 b [.ref vb, .int (nI m0), .int 0]) (hB : gI z xb .int H0 vb nb (dI ee)) : Met l yJ24_compare (ws_ yJ24_compare cJ24_compare 8 (some .int)) { frames := 0, cells := 0, slots := 0, locals := 0 } (gPc z H0 [.ref a, .ref b]) (gPi H0 (fun r => (r = -1 ∧ seg d 0 n < seg ee 0 m0) ∨ (r = 0 ∧ seg d 0 n = seg ee 0 m0) ∨ (r = 1 ∧ seg ee 0 m0 < seg d 0 n))) 0 0 gno := by
  refine g_start (by decide +kernel) (Nat.le_of_ble_eq_true rfl) ?_
  intro p e s m below meth c ls hx hb hr hlocks hml hown hname hts hwm hl
  have hown : s.vm.findClass "java/math/MutableBigInteger" = some m.cls := hown
  have hal : z.vm.Alike s.vm := hwm.alike
  have hCF : CallFix p m c cJ24_compare 8 s [.ref a, .ref b].toArray lw_all "java/math/MutableBigInteger" := ⟨hx, hb, hml, hown, hts⟩
  have hl : lv_has ls 8 [(0, .ref a), (1, .ref b)] := hl
  refine lv_aload_n hx hb dJ24_compare_0 rfl (lv_at hl 1 rfl) ?_
  refine gw_get (C := RJ24) (T := TJ24) (N := 3) (v := .int (nI m0)) hx hb hts in_J24 hown hal hOb 1 (by decide) (hts _ q980) (fun _ h9 => h9) rfl dJ24_compare_1 ?_
  refine lv_istore_n hx hb dJ24_compare_4 rfl hl (by decide) rfl (fun ls hl => ?_)
  have hl : lv_has ls 8 [(2, .int (nI m0)), (0, .ref a), (1, .ref b)] := hl
  refine lv_aload_n hx hb dJ24_compare_5 rfl (lv_at hl 1 rfl) ?_
  refine gw_get (C := RJ24) (T := TJ24) (N := 3) (v := .int (nI n)) hx hb hts in_J24 hown hal hOa 1 (by decide) (hts _ q980) (fun _ h9 => h9) rfl dJ24_compare_6 ?_
  refine lv_iload_n hx hb dJ24_compare_9 rfl (lv_at hl 0 rfl) ?_
  refine lv_icmp_ge (tgt := 15) hx hb dJ24_compare_10 (by decide) (fun c_10 => ?_) (fun c_10 => ?_)
  · skip
    have c_10 := (ai_le (a := m0) (b := n) (rfl) (rfl) (by omega) (by omega)).mp c_10
    refine lv_aload_n hx hb dJ24_compare_15 rfl (lv_at hl 1 rfl) ?_
    refine gw_get (C := RJ24) (T := TJ24) (N := 3) (v := .int (nI n)) hx hb hts in_J24 hown hal hOa 1 (by decide) (hts _ q980) (fun _ h9 => h9) rfl dJ24_compare_16 ?_
    refine lv_iload_n hx hb dJ24_compare_19 rfl (lv_at hl 0 rfl) ?_
    refine lv_icmp_le (tgt := 25) hx hb dJ24_compare_20 (by decide) (fun c_20 => ?_) (fun c_20 => ?_)
    · skip
      have c_20 := (ai_le (a := n) (b := m0) (rfl) (rfl) (by omega) (by omega)).mp c_20
      refine lv_aload_n hx hb dJ24_compare_25 rfl (lv_at hl 2 rfl) ?_
      refine gw_get (C := RJ24) (T := TJ24) (N := 3) (v := .ref vb) hx hb hts in_J24 hown hal hOb 0 (by decide) (hts _ q979) (fun _ h9 => h9) rfl dJ24_compare_26 ?_
      refine lv_astore_n hx hb dJ24_compare_29 rfl hl (by decide) rfl (fun ls hl => ?_)
      have hl : lv_has ls 8 [(3, .ref vb), (2, .int (nI m0)), (0, .ref a), (1, .ref b)] := hl
      refine lv_aload_n hx hb dJ24_compare_30 rfl (lv_at hl 2 rfl) ?_
      refine gw_get (C := RJ24) (T := TJ24) (N := 3) (v := .int 0) hx hb hts in_J24 hown hal hOa 2 (by decide) (hts _ q981) (fun _ h9 => h9) rfl dJ24_compare_31 ?_
      refine lv_istore hx hb dJ24_compare_34 hl (by decide) rfl (fun ls hl => ?_)
      have hl : lv_has ls 8 [(4, .int 0), (3, .ref vb), (2, .int (nI m0)), (0, .ref a), (1, .ref b)] := hl
      refine lv_aload_n hx hb dJ24_compare_36 rfl (lv_at hl 4 rfl) ?_
      refine gw_get (C := RJ24) (T := TJ24) (N := 3) (v := .int 0) hx hb hts in_J24 hown hal hOb 2 (by decide) (hts _ q981) (fun _ h9 => h9) rfl dJ24_compare_37 ?_
      refine lv_istore hx hb dJ24_compare_40 hl (by decide) rfl (fun ls hl => ?_)
      have hl : lv_has ls 8 [(5, .int 0), (4, .int 0), (3, .ref vb), (2, .int (nI m0)), (0, .ref a), (1, .ref b)] := hl
      have loopA : ∀ (n_ : Nat) (i : Nat), (i ≤ n) → (∀ j, j < i → d (0 + j) = ee (0 + j)) → (n - i) < n_ → ∀ (ls : Array Slot), lv_has ls 8 [(5, .int (nI i)), (4, .int (nI i)), (3, .ref vb), (2, .int (nI m0)), (0, .ref a), (1, .ref b)] → W p l e { frames := 0, cells := 0, slots := 0, locals := 0 } s m [.ref a, .ref b].toArray below meth c H0 [] 0 0 (MQ below (gPi H0 (fun r => (r = -1 ∧ seg d 0 n < seg ee 0 m0) ∨ (r = 0 ∧ seg d 0 n = seg ee 0 m0) ∨ (r = 1 ∧ seg ee 0 m0 < seg d 0 n))) [.ref a, .ref b].toArray s 0 0 (gno)) (F0 m 42 ls []) := by
        intro n_
        induction n_ with
        | zero => intro i hi hq hm_; exact absurd hm_ (Nat.not_lt_zero _)
        | succ n_ ih_loopA =>
          intro i hi hq hm_ ls hl
          refine lv_iload hx hb dJ24_compare_42 (lv_at hl 1 rfl) ?_
          refine lv_aload_n hx hb dJ24_compare_44 rfl (lv_at hl 4 rfl) ?_
          refine gw_get (C := RJ24) (T := TJ24) (N := 3) (v := .int (nI n)) hx hb hts in_J24 hown hal hOa 1 (by decide) (hts _ q980) (fun _ h9 => h9) rfl dJ24_compare_45 ?_
          refine lv_aload_n hx hb dJ24_compare_48 rfl (lv_at hl 4 rfl) ?_
          refine gw_get (C := RJ24) (T := TJ24) (N := 3) (v := .int 0) hx hb hts in_J24 hown hal hOa 2 (by decide) (hts _ q981) (fun _ h9 => h9) rfl dJ24_compare_49 ?_
          refine lv_iadd hx hb dJ24_compare_52 ?_
          refine g_topi (v := nI n) (ai_add (a := n) (b := 0) (rfl) (rfl)) ?_
          refine lv_icmp_ge (tgt := 104) hx hb dJ24_compare_53 (by decide) (fun c_53 => ?_) (fun c_53 => ?_)
          · skip
            have c_53 := (ai_le (a := n) (b := i) (rfl) (rfl) (by omega) (by omega)).mp c_53
            refine lv_iconst (v := 0) hx hb dJ24_compare_104 (by decide) ?_
            refine g_iretP hx hb hr hlocks ?_ dJ24_compare_105
            have hnm : m0 = n := by omega
            subst hnm
            exact Or.inr (Or.inl ⟨rfl, seg_eq fun j hj => hq j (by omega)⟩)
          · skip
            have c_53 := mt (ai_le (a := n) (b := i) (rfl) (rfl) (by omega) (by omega)).mpr c_53
            refine lv_aload_n hx hb dJ24_compare_56 rfl (lv_at hl 4 rfl) ?_
            refine gw_get (C := RJ24) (T := TJ24) (N := 3) (v := .ref va) hx hb hts in_J24 hown hal hOa 0 (by decide) (hts _ q979) (fun _ h9 => h9) rfl dJ24_compare_57 ?_
            refine lv_iload hx hb dJ24_compare_60 (lv_at hl 1 rfl) ?_
            refine gw_iald hx hb hal hA i (rfl) (by omega) (by omega) dJ24_compare_62 ?_
            refine g_topi (v := (nI (d i))) rfl ?_
            have hq1 := hd i
            have hq2 := he i
            refine lv_ldc (v := -2147483648) hx hb hown (hts _ q1012) dJ24_compare_63 ?_
            refine lv_iadd hx hb dJ24_compare_65 ?_
            refine g_topi (v := iI (((d i) : Nat) + (-2147483648))) (ai_addI (a := ((d i) : Nat)) (b := (-2147483648)) (nI_iI _) (by decide)) ?_
            refine lv_istore hx hb dJ24_compare_66 hl (by decide) rfl (fun ls hl => ?_)
            have hl : lv_has ls 8 [(6, .int (iI (((d i) : Nat) + (-2147483648)))), (5, .int (nI i)), (4, .int (nI i)), (3, .ref vb), (2, .int (nI m0)), (0, .ref a), (1, .ref b)] := hl
            refine lv_aload_n hx hb dJ24_compare_68 rfl (lv_at hl 3 rfl) ?_
            refine lv_iload hx hb dJ24_compare_69 (lv_at hl 1 rfl) ?_
            refine gw_iald hx hb hal hB i (rfl) (by omega) (by omega) dJ24_compare_71 ?_
            refine g_topi (v := (nI (ee i))) rfl ?_
            refine lv_ldc (v := -2147483648) hx hb hown (hts _ q1012) dJ24_compare_72 ?_
            refine lv_iadd hx hb dJ24_compare_74 ?_
            refine g_topi (v := iI (((ee i) : Nat) + (-2147483648))) (ai_addI (a := ((ee i) : Nat)) (b := (-2147483648)) (nI_iI _) (by decide)) ?_
            refine lv_istore hx hb dJ24_compare_75 hl (by decide) rfl (fun ls hl => ?_)
            have hl : lv_has ls 8 [(7, .int (iI (((ee i) : Nat) + (-2147483648)))), (6, .int (iI (((d i) : Nat) + (-2147483648)))), (5, .int (nI i)), (4, .int (nI i)), (3, .ref vb), (2, .int (nI m0)), (0, .ref a), (1, .ref b)] := hl
            refine lv_iload hx hb dJ24_compare_77 (lv_at hl 1 rfl) ?_
            refine lv_iload hx hb dJ24_compare_79 (lv_at hl 0 rfl) ?_
            refine lv_icmp_ge (tgt := 86) hx hb dJ24_compare_81 (by decide) (fun c_81 => ?_) (fun c_81 => ?_)
            · skip
              have c_81 := (ai_leI (a := (((ee i) : Nat) + (-2147483648))) (b := (((d i) : Nat) + (-2147483648))) (rfl) (rfl) (by omega) (by omega) (by omega) (by omega)).mp c_81
              refine lv_iload hx hb dJ24_compare_86 (lv_at hl 1 rfl) ?_
              refine lv_iload hx hb dJ24_compare_88 (lv_at hl 0 rfl) ?_
              refine lv_icmp_le (tgt := 95) hx hb dJ24_compare_90 (by decide) (fun c_90 => ?_) (fun c_90 => ?_)
              · skip
                have c_90 := (ai_leI (a := (((d i) : Nat) + (-2147483648))) (b := (((ee i) : Nat) + (-2147483648))) (rfl) (rfl) (by omega) (by omega) (by omega) (by omega)).mp c_90
                refine lv_iinc (k := 3) (v := (nI (i + 1))) hx hb dJ24_compare_95 hl rfl (ai_add (a := i) (b := 1) (rfl) (show Int32.ofInt 1 = nI 1 by decide)) (by decide) rfl (fun ls hl => ?_)
                have hl : lv_has ls 8 [(4, .int (nI (i + 1))), (7, .int (iI (((ee i) : Nat) + (-2147483648)))), (6, .int (iI (((d i) : Nat) + (-2147483648)))), (5, .int (nI i)), (3, .ref vb), (2, .int (nI m0)), (0, .ref a), (1, .ref b)] := hl
                refine lv_iinc (k := 3) (v := (nI (i + 1))) hx hb dJ24_compare_98 hl rfl (ai_add (a := i) (b := 1) (rfl) (show Int32.ofInt 1 = nI 1 by decide)) (by decide) rfl (fun ls hl => ?_)
                have hl : lv_has ls 8 [(5, .int (nI (i + 1))), (4, .int (nI (i + 1))), (7, .int (iI (((ee i) : Nat) + (-2147483648)))), (6, .int (iI (((d i) : Nat) + (-2147483648)))), (3, .ref vb), (2, .int (nI m0)), (0, .ref a), (1, .ref b)] := hl
                refine lv_goto (tgt := 42) hx hb dJ24_compare_101 (by decide) ?_
                exact ih_loopA (i + 1) (by omega) (fun j hj => by rcases Nat.lt_or_ge j i with q | q; exact hq j q; rw [show j = i by omega, Nat.zero_add]; omega) (by omega) ls (lv_sub hl [0, 1, 4, 5, 6, 7] rfl)
              · skip
                have c_90 := mt (ai_leI (a := (((d i) : Nat) + (-2147483648))) (b := (((ee i) : Nat) + (-2147483648))) (rfl) (rfl) (by omega) (by omega) (by omega) (by omega)).mpr c_90
                refine lv_iconst (v := 1) hx hb dJ24_compare_93 (by decide) ?_
                refine g_iretP hx hb hr hlocks ?_ dJ24_compare_94
                have hnm : m0 = n := by omega
                subst hnm
                exact Or.inr (Or.inr ⟨rfl, cmp_dig he hd (i := i) (by omega) (fun j hj => (hq j hj).symm) (by rw [Nat.zero_add]; omega)⟩)
            · skip
              have c_81 := mt (ai_leI (a := (((ee i) : Nat) + (-2147483648))) (b := (((d i) : Nat) + (-2147483648))) (rfl) (rfl) (by omega) (by omega) (by omega) (by omega)).mpr c_81
              refine lv_iconst (v := -1) hx hb dJ24_compare_84 (by decide) ?_
              refine g_iretP hx hb hr hlocks ?_ dJ24_compare_85
              have hnm : m0 = n := by omega
              subst hnm
              exact Or.inl ⟨rfl, cmp_dig hd he (i := i) (by omega) hq (by rw [Nat.zero_add]; omega)⟩
      exact loopA _ 0 (Nat.zero_le _) (fun j hj => by omega) (Nat.lt_succ_self _) ls (lv_sub hl [0, 1, 2, 3, 4, 5] rfl)
    · skip
      have c_20 := mt (ai_le (a := n) (b := m0) (rfl) (rfl) (by omega) (by omega)).mpr c_20
      refine lv_iconst (v := 1) hx hb dJ24_compare_23 (by decide) ?_
      refine g_iretP hx hb hr hlocks ?_ dJ24_compare_24
      exact Or.inr (Or.inr ⟨rfl, len_lt he hd (by omega) (hd0 (by omega)) (by omega)⟩)
  · skip
    have c_10 := mt (ai_le (a := m0) (b := n) (rfl) (rfl) (by omega) (by omega)).mpr c_10
    refine lv_iconst (v := -1) hx hb dJ24_compare_13 (by decide) ?_
    refine g_iretP hx hb hr hlocks ?_ dJ24_compare_14
    exact Or.inl ⟨rfl, len_lt hd he (by omega) (he0 (by omega)) (by omega)⟩
set_option maxHeartbeats 1000000 in
theorem m_norm (l : Launch) (z : State) (H0 : Heap) (a : Nat) (v n o nv : Nat) (wv : Bool) (d : Nat → Nat) (hav : v ≠ a) (hon : o + n ≤ nv) (hnv9 : nv < 1000000) (hd : ∀ i, d i < 4294967296) (hO : gO z true RJ24 TJ24 3 H0 a [.ref v, .int (nI n), .int (nI o)]) (hA : gI z wv .int H0 v nv (dI d)) : Met l yJ24_normalize (ws_ yJ24_normalize cJ24_normalize 4 (none)) { frames := 0, cells := 0, slots := 0, locals := 0 } (gPc z H0 [.ref a]) (gRv (fun q => q = a) H0 (fun H1 => ∃ n1 o1, n1 ≤ n ∧ o1 + n1 ≤ nv ∧ seg d o1 n1 = seg d o n ∧ ((n1 = 0 ∧ o1 = 0) ∨ (0 < n1 ∧ d o1 ≠ 0)) ∧ gO z true RJ24 TJ24 3 H1 a [.ref v, .int (nI n1), .int (nI o1)])) 0 0 (fun q => q = a) := by
  refine g_start (by decide +kernel) (Nat.le_of_ble_eq_true rfl) ?_
  intro p e s m below meth c ls hx hb hr hlocks hml hown hname hts hwm hl
  have hown : s.vm.findClass "java/math/MutableBigInteger" = some m.cls := hown
  have hal : z.vm.Alike s.vm := hwm.alike
  have hCF : CallFix p m c cJ24_normalize 4 s [.ref a].toArray lw_all "java/math/MutableBigInteger" := ⟨hx, hb, hml, hown, hts⟩
  have hl : lv_has ls 4 [(0, .ref a)] := hl
  have hS : va_S (fun q => q = a) H0 H0 [] := va_S.rf
  have lt_a := hO.lt
  have lt_v := hA.lt
  refine lv_aload_n hx hb dJ24_normalize_0 rfl (lv_at hl 0 rfl) ?_
  refine gw_get (C := RJ24) (T := TJ24) (N := 3) (v := .int (nI n)) hx hb hts in_J24 hown hal hO 1 (by decide) (hts _ q980) (fun _ h9 => h9) rfl dJ24_normalize_1 ?_
  refine lv_if_ne (tgt := 13) hx hb dJ24_normalize_4 (by decide) (fun c_4 => ?_) (fun c_4 => ?_)
  · skip
    have c_4 := mt (ai_eq (a := n) (b := 0) (rfl) (rfl) (by omega) (by omega)).mpr c_4
    refine lv_aload_n hx hb dJ24_normalize_13 rfl (lv_at hl 0 rfl) ?_
    refine gw_get (C := RJ24) (T := TJ24) (N := 3) (v := .int (nI o)) hx hb hts in_J24 hown hal hO 2 (by decide) (hts _ q981) (fun _ h9 => h9) rfl dJ24_normalize_14 ?_
    refine lv_istore_n hx hb dJ24_normalize_17 rfl hl (by decide) rfl (fun ls hl => ?_)
    have hl : lv_has ls 4 [(1, .int (nI o)), (0, .ref a)] := hl
    refine lv_aload_n hx hb dJ24_normalize_18 rfl (lv_at hl 1 rfl) ?_
    refine gw_get (C := RJ24) (T := TJ24) (N := 3) (v := .ref v) hx hb hts in_J24 hown hal hO 0 (by decide) (hts _ q979) (fun _ h9 => h9) rfl dJ24_normalize_19 ?_
    refine lv_iload_n hx hb dJ24_normalize_22 rfl (lv_at hl 0 rfl) ?_
    refine gw_iald hx hb hal hA o (rfl) (by omega) (by omega) dJ24_normalize_23 ?_
    refine g_topi (v := (nI (d o))) rfl ?_
    refine lv_if_eq (tgt := 28) hx hb dJ24_normalize_24 (by decide) (fun c_24 => ?_) (fun c_24 => ?_)
    · skip
      have c_24 := (ai_eqU (a := (d o)) (b := 0) (rfl) (rfl) (hd _) (by omega)).mp c_24
      refine lv_iload_n hx hb dJ24_normalize_28 rfl (lv_at hl 0 rfl) ?_
      refine lv_aload_n hx hb dJ24_normalize_29 rfl (lv_at hl 1 rfl) ?_
      refine gw_get (C := RJ24) (T := TJ24) (N := 3) (v := .int (nI n)) hx hb hts in_J24 hown hal hO 1 (by decide) (hts _ q980) (fun _ h9 => h9) rfl dJ24_normalize_30 ?_
      refine lv_iadd hx hb dJ24_normalize_33 ?_
      refine g_topi (v := nI (o + n)) (ai_add (a := o) (b := n) (rfl) (rfl)) ?_
      refine lv_istore_n hx hb dJ24_normalize_34 rfl hl (by decide) rfl (fun ls hl => ?_)
      have hl : lv_has ls 4 [(2, .int (nI (o + n))), (1, .int (nI o)), (0, .ref a)] := hl
      have loopA : ∀ (n_ : Nat) (i : Nat), (i < n) → (∀ j, j ≤ i → d (o + j) = 0) → (n - i) < n_ → ∀ (H_1 : Heap) (locs : List Loc), va_S (fun q => q = a) H0 H_1 locs → gO z true RJ24 TJ24 3 H_1 a [.ref v, .int (nI n), .int (nI o)] → gI z wv .int H_1 v nv (dI d) → ∀ (ls : Array Slot), lv_has ls 4 [(2, .int (nI (o + n))), (1, .int (nI (o + i))), (0, .ref a)] → W p l e { frames := 0, cells := 0, slots := 0, locals := 0 } s m [.ref a].toArray below meth c H_1 locs 0 0 (MQ below (gRv (fun q => q = a) H0 (fun H1 => ∃ n1 o1, n1 ≤ n ∧ o1 + n1 ≤ nv ∧ seg d o1 n1 = seg d o n ∧ ((n1 = 0 ∧ o1 = 0) ∨ (0 < n1 ∧ d o1 ≠ 0)) ∧ gO z true RJ24 TJ24 3 H1 a [.ref v, .int (nI n1), .int (nI o1)])) [.ref a].toArray s 0 0 (fun q => q = a)) (F0 m 35 ls []) := by
        intro n_
        induction n_ with
        | zero => intro i hi hq hm_; exact absurd hm_ (Nat.not_lt_zero _)
        | succ n_ ih_loopA =>
          intro i hi hq hm_ H_1 locs hS hO hA ls hl
          refine lv_iinc (k := 1) (v := (nI (o + i + 1))) hx hb dJ24_normalize_35 hl rfl (ai_add (a := (o + i)) (b := 1) (rfl) (show Int32.ofInt 1 = nI 1 by decide)) (by decide) rfl (fun ls hl => ?_)
          have hl : lv_has ls 4 [(1, .int (nI (o + i + 1))), (2, .int (nI (o + n))), (0, .ref a)] := hl
          refine lv_iload_n hx hb dJ24_normalize_38 rfl (lv_at hl 0 rfl) ?_
          refine lv_iload_n hx hb dJ24_normalize_39 rfl (lv_at hl 1 rfl) ?_
          refine lv_icmp_ge (tgt := 52) hx hb dJ24_normalize_40 (by decide) (fun c_40 => ?_) (fun c_40 => ?_)
          · skip
            have c_40 := (ai_le (a := (o + n)) (b := (o + i + 1)) (rfl) (rfl) (by omega) (by omega)).mp c_40
            refine lv_iload_n hx hb dJ24_normalize_52 rfl (lv_at hl 0 rfl) ?_
            refine lv_aload_n hx hb dJ24_normalize_53 rfl (lv_at hl 2 rfl) ?_
            refine gw_get (C := RJ24) (T := TJ24) (N := 3) (v := .int (nI o)) hx hb hts in_J24 hown hal hO 2 (by decide) (hts _ q981) (fun _ h9 => h9) rfl dJ24_normalize_54 ?_
            refine lv_isub hx hb dJ24_normalize_57 ?_
            refine g_topi (v := (nI (i + 1))) ((ai_sub (a := o + i + 1) (b := o) rfl rfl (by omega)).trans (congrArg nI (by omega))) ?_
            refine lv_istore_n hx hb dJ24_normalize_58 rfl hl (by decide) rfl (fun ls hl => ?_)
            have hl : lv_has ls 4 [(3, .int (nI (i + 1))), (1, .int (nI (o + i + 1))), (2, .int (nI (o + n))), (0, .ref a)] := hl
            refine lv_aload_n hx hb dJ24_normalize_59 rfl (lv_at hl 3 rfl) ?_
            refine lv_dup hx hb dJ24_normalize_60 rfl ?_
            refine gw_get (C := RJ24) (T := TJ24) (N := 3) (v := .int (nI n)) hx hb hts in_J24 hown hal hO 1 (by decide) (hts _ q980) (fun _ h9 => h9) rfl dJ24_normalize_61 ?_
            refine lv_iload_n hx hb dJ24_normalize_64 rfl (lv_at hl 0 rfl) ?_
            refine lv_isub hx hb dJ24_normalize_65 ?_
            refine g_topi (v := nI (n - (i + 1))) (ai_sub (a := n) (b := (i + 1)) (rfl) (rfl) (by omega)) ?_
            refine gw_put (C := RJ24) (T := TJ24) (N := 3) (ty := .int) (v := .int (nI (n - (i + 1)))) hx hb hts in_J24 tyJ24 tyJ24_ok nmJ24 (hts _ q974) hown hal hO hS (by have hsz := hS.1; (try dsimp only [gfr]) <;> omega) 1 (by decide) (hts _ q980) (fun _ h9 => h9) rfl (by decide +kernel) (rfl) (rfl) (Nat.le_of_ble_eq_true rfl) dJ24_normalize_66 (fun H_2 locs h_new hch hS => ?_)
            have hA := hA.ch hch (by omega)
            have sz_H_2 := hch.1
            clear hch
            have hO : gO z true RJ24 TJ24 3 H_2 a [.ref v, .int (nI (n - (i + 1))), .int (nI o)] := h_new
            refine lv_aload_n hx hb dJ24_normalize_69 rfl (lv_at hl 3 rfl) ?_
            refine lv_aload_n hx hb dJ24_normalize_70 rfl (lv_at hl 3 rfl) ?_
            refine gw_get (C := RJ24) (T := TJ24) (N := 3) (v := .int (nI (n - (i + 1)))) hx hb hts in_J24 hown hal hO 1 (by decide) (hts _ q980) (fun _ h9 => h9) rfl dJ24_normalize_71 ?_
            refine lv_if_ne (tgt := 81) hx hb dJ24_normalize_74 (by decide) (fun c_74 => ?_) (fun c_74 => ?_)
            · skip
              have c_74 := mt (ai_eq (a := (n - (i + 1))) (b := 0) (rfl) (rfl) (by omega) (by omega)).mpr c_74
              refine lv_aload_n hx hb dJ24_normalize_81 rfl (lv_at hl 3 rfl) ?_
              refine gw_get (C := RJ24) (T := TJ24) (N := 3) (v := .int (nI o)) hx hb hts in_J24 hown hal hO 2 (by decide) (hts _ q981) (fun _ h9 => h9) rfl dJ24_normalize_82 ?_
              refine lv_iload_n hx hb dJ24_normalize_85 rfl (lv_at hl 0 rfl) ?_
              refine lv_iadd hx hb dJ24_normalize_86 ?_
              refine g_topi (v := nI (o + (i + 1))) (ai_add (a := o) (b := (i + 1)) (rfl) (rfl)) ?_
              refine gw_put (C := RJ24) (T := TJ24) (N := 3) (ty := .int) (v := .int (nI (o + (i + 1)))) hx hb hts in_J24 tyJ24 tyJ24_ok nmJ24 (hts _ q974) hown hal hO hS (by have hsz := hS.1; (try dsimp only [gfr]) <;> omega) 2 (by decide) (hts _ q981) (fun _ h9 => h9) rfl (by decide +kernel) (rfl) (rfl) (Nat.le_of_ble_eq_true rfl) dJ24_normalize_87 (fun H_3 locs h_new hch hS => ?_)
              have hA := hA.ch hch (by omega)
              have sz_H_3 := hch.1
              clear hch
              have hO : gO z true RJ24 TJ24 3 H_3 a [.ref v, .int (nI (n - (i + 1))), .int (nI (o + (i + 1)))] := h_new
              refine g_vret hx hb hr hlocks hS (Nat.le_of_ble_eq_true rfl) (Nat.le_of_ble_eq_true rfl) ?_ dJ24_normalize_90
              have h49 : d (o + i + 1) ≠ 0 := by
                first | exact c_49 | (exfalso; omega)
              exact ⟨n - (i + 1), o + (i + 1), by omega, by omega, seg_strip (by omega) (fun j hj => hq j (by omega)), Or.inr ⟨by omega, by rw [← Nat.add_assoc]; exact h49⟩, hO⟩
            · skip
              have c_74 := (ai_eq (a := (n - (i + 1))) (b := 0) (rfl) (rfl) (by omega) (by omega)).mp c_74
              refine lv_iconst (v := 0) hx hb dJ24_normalize_77 (by decide) ?_
              refine lv_goto (tgt := 87) hx hb dJ24_normalize_78 (by decide) ?_
              refine gw_put (C := RJ24) (T := TJ24) (N := 3) (ty := .int) (v := .int 0) hx hb hts in_J24 tyJ24 tyJ24_ok nmJ24 (hts _ q974) hown hal hO hS (by have hsz := hS.1; (try dsimp only [gfr]) <;> omega) 2 (by decide) (hts _ q981) (fun _ h9 => h9) rfl (by decide +kernel) (rfl) (rfl) (Nat.le_of_ble_eq_true rfl) dJ24_normalize_87 (fun H_4 locs h_new hch hS => ?_)
              have hA := hA.ch hch (by omega)
              have sz_H_4 := hch.1
              clear hch
              have hO : gO z true RJ24 TJ24 3 H_4 a [.ref v, .int (nI (n - (i + 1))), .int 0] := h_new
              refine g_vret hx hb hr hlocks hS (Nat.le_of_ble_eq_true rfl) (Nat.le_of_ble_eq_true rfl) ?_ dJ24_normalize_90
              refine ⟨0, 0, by omega, by omega, ?_, Or.inl ⟨rfl, rfl⟩, by rw [show n - (i + 1) = 0 by omega] at hO; exact hO⟩
              rw [seg_z]
              refine (seg_zero fun j h1 h2 => ?_).symm
              have := hq (j - o) (by omega)
              rwa [show o + (j - o) = j by omega] at this
          · skip
            have c_40 := mt (ai_le (a := (o + n)) (b := (o + i + 1)) (rfl) (rfl) (by omega) (by omega)).mpr c_40
            refine lv_aload_n hx hb dJ24_normalize_43 rfl (lv_at hl 2 rfl) ?_
            refine gw_get (C := RJ24) (T := TJ24) (N := 3) (v := .ref v) hx hb hts in_J24 hown hal hO 0 (by decide) (hts _ q979) (fun _ h9 => h9) rfl dJ24_normalize_44 ?_
            refine lv_iload_n hx hb dJ24_normalize_47 rfl (lv_at hl 0 rfl) ?_
            refine gw_iald hx hb hal hA (o + i + 1) (rfl) (by omega) (by omega) dJ24_normalize_48 ?_
            refine g_topi (v := (nI (d (o + i + 1)))) rfl ?_
            refine lv_if_eq (tgt := 35) hx hb dJ24_normalize_49 (by decide) (fun c_49 => ?_) (fun c_49 => ?_)
            · skip
              have c_49 := (ai_eqU (a := (d (o + i + 1))) (b := 0) (rfl) (rfl) (hd _) (by omega)).mp c_49
              exact ih_loopA (i + 1) (by omega) (fun j hj => by rcases Nat.lt_or_ge i j with q | q; rw [show j = i + 1 by omega]; rw [show o + (i + 1) = o + i + 1 by omega]; exact c_49; exact hq j q) (by omega) H_1 _ hS hO hA ls (lv_sub hl [1, 0, 2] rfl)
            · skip
              have c_49 := mt (ai_eqU (a := (d (o + i + 1))) (b := 0) (rfl) (rfl) (hd _) (by omega)).mpr c_49
              refine lv_iload_n hx hb dJ24_normalize_52 rfl (lv_at hl 0 rfl) ?_
              refine lv_aload_n hx hb dJ24_normalize_53 rfl (lv_at hl 2 rfl) ?_
              refine gw_get (C := RJ24) (T := TJ24) (N := 3) (v := .int (nI o)) hx hb hts in_J24 hown hal hO 2 (by decide) (hts _ q981) (fun _ h9 => h9) rfl dJ24_normalize_54 ?_
              refine lv_isub hx hb dJ24_normalize_57 ?_
              refine g_topi (v := (nI (i + 1))) ((ai_sub (a := o + i + 1) (b := o) rfl rfl (by omega)).trans (congrArg nI (by omega))) ?_
              refine lv_istore_n hx hb dJ24_normalize_58 rfl hl (by decide) rfl (fun ls hl => ?_)
              have hl : lv_has ls 4 [(3, .int (nI (i + 1))), (1, .int (nI (o + i + 1))), (2, .int (nI (o + n))), (0, .ref a)] := hl
              refine lv_aload_n hx hb dJ24_normalize_59 rfl (lv_at hl 3 rfl) ?_
              refine lv_dup hx hb dJ24_normalize_60 rfl ?_
              refine gw_get (C := RJ24) (T := TJ24) (N := 3) (v := .int (nI n)) hx hb hts in_J24 hown hal hO 1 (by decide) (hts _ q980) (fun _ h9 => h9) rfl dJ24_normalize_61 ?_
              refine lv_iload_n hx hb dJ24_normalize_64 rfl (lv_at hl 0 rfl) ?_
              refine lv_isub hx hb dJ24_normalize_65 ?_
              refine g_topi (v := nI (n - (i + 1))) (ai_sub (a := n) (b := (i + 1)) (rfl) (rfl) (by omega)) ?_
              refine gw_put (C := RJ24) (T := TJ24) (N := 3) (ty := .int) (v := .int (nI (n - (i + 1)))) hx hb hts in_J24 tyJ24 tyJ24_ok nmJ24 (hts _ q974) hown hal hO hS (by have hsz := hS.1; (try dsimp only [gfr]) <;> omega) 1 (by decide) (hts _ q980) (fun _ h9 => h9) rfl (by decide +kernel) (rfl) (rfl) (Nat.le_of_ble_eq_true rfl) dJ24_normalize_66 (fun H_5 locs h_new hch hS => ?_)
              have hA := hA.ch hch (by omega)
              have sz_H_5 := hch.1
              clear hch
              have hO : gO z true RJ24 TJ24 3 H_5 a [.ref v, .int (nI (n - (i + 1))), .int (nI o)] := h_new
              refine lv_aload_n hx hb dJ24_normalize_69 rfl (lv_at hl 3 rfl) ?_
              refine lv_aload_n hx hb dJ24_normalize_70 rfl (lv_at hl 3 rfl) ?_
              refine gw_get (C := RJ24) (T := TJ24) (N := 3) (v := .int (nI (n - (i + 1)))) hx hb hts in_J24 hown hal hO 1 (by decide) (hts _ q980) (fun _ h9 => h9) rfl dJ24_normalize_71 ?_
              refine lv_if_ne (tgt := 81) hx hb dJ24_normalize_74 (by decide) (fun c_74 => ?_) (fun c_74 => ?_)
              · skip
                have c_74 := mt (ai_eq (a := (n - (i + 1))) (b := 0) (rfl) (rfl) (by omega) (by omega)).mpr c_74
                refine lv_aload_n hx hb dJ24_normalize_81 rfl (lv_at hl 3 rfl) ?_
                refine gw_get (C := RJ24) (T := TJ24) (N := 3) (v := .int (nI o)) hx hb hts in_J24 hown hal hO 2 (by decide) (hts _ q981) (fun _ h9 => h9) rfl dJ24_normalize_82 ?_
                refine lv_iload_n hx hb dJ24_normalize_85 rfl (lv_at hl 0 rfl) ?_
                refine lv_iadd hx hb dJ24_normalize_86 ?_
                refine g_topi (v := nI (o + (i + 1))) (ai_add (a := o) (b := (i + 1)) (rfl) (rfl)) ?_
                refine gw_put (C := RJ24) (T := TJ24) (N := 3) (ty := .int) (v := .int (nI (o + (i + 1)))) hx hb hts in_J24 tyJ24 tyJ24_ok nmJ24 (hts _ q974) hown hal hO hS (by have hsz := hS.1; (try dsimp only [gfr]) <;> omega) 2 (by decide) (hts _ q981) (fun _ h9 => h9) rfl (by decide +kernel) (rfl) (rfl) (Nat.le_of_ble_eq_true rfl) dJ24_normalize_87 (fun H_6 locs h_new hch hS => ?_)
                have hA := hA.ch hch (by omega)
                have sz_H_6 := hch.1
                clear hch
                have hO : gO z true RJ24 TJ24 3 H_6 a [.ref v, .int (nI (n - (i + 1))), .int (nI (o + (i + 1)))] := h_new
                refine g_vret hx hb hr hlocks hS (Nat.le_of_ble_eq_true rfl) (Nat.le_of_ble_eq_true rfl) ?_ dJ24_normalize_90
                have h49 : d (o + i + 1) ≠ 0 := by
                  first | exact c_49 | (exfalso; omega)
                exact ⟨n - (i + 1), o + (i + 1), by omega, by omega, seg_strip (by omega) (fun j hj => hq j (by omega)), Or.inr ⟨by omega, by rw [← Nat.add_assoc]; exact h49⟩, hO⟩
              · skip
                have c_74 := (ai_eq (a := (n - (i + 1))) (b := 0) (rfl) (rfl) (by omega) (by omega)).mp c_74
                refine lv_iconst (v := 0) hx hb dJ24_normalize_77 (by decide) ?_
                refine lv_goto (tgt := 87) hx hb dJ24_normalize_78 (by decide) ?_
                refine gw_put (C := RJ24) (T := TJ24) (N := 3) (ty := .int) (v := .int 0) hx hb hts in_J24 tyJ24 tyJ24_ok nmJ24 (hts _ q974) hown hal hO hS (by have hsz := hS.1; (try dsimp only [gfr]) <;> omega) 2 (by decide) (hts _ q981) (fun _ h9 => h9) rfl (by decide +kernel) (rfl) (rfl) (Nat.le_of_ble_eq_true rfl) dJ24_normalize_87 (fun H_7 locs h_new hch hS => ?_)
                have hA := hA.ch hch (by omega)
                have sz_H_7 := hch.1
                clear hch
                have hO : gO z true RJ24 TJ24 3 H_7 a [.ref v, .int (nI (n - (i + 1))), .int 0] := h_new
                refine g_vret hx hb hr hlocks hS (Nat.le_of_ble_eq_true rfl) (Nat.le_of_ble_eq_true rfl) ?_ dJ24_normalize_90
                refine ⟨0, 0, by omega, by omega, ?_, Or.inl ⟨rfl, rfl⟩, by rw [show n - (i + 1) = 0 by omega] at hO; exact hO⟩
                rw [seg_z]
                refine (seg_zero fun j h1 h2 => ?_).symm
                have := hq (j - o) (by omega)
                rwa [show o + (j - o) = j by omega] at this
      exact loopA _ 0 (by omega) (fun j hj => by rw [show j = 0 by omega]; exact c_24) (Nat.lt_succ_self _) H0 _ hS hO hA ls (lv_sub hl [0, 1, 2] rfl)
    · skip
      have c_24 := mt (ai_eqU (a := (d o)) (b := 0) (rfl) (rfl) (hd _) (by omega)).mpr c_24
      refine g_vret hx hb hr hlocks hS (Nat.le_of_ble_eq_true rfl) (Nat.le_of_ble_eq_true rfl) ?_ dJ24_normalize_27
      exact ⟨n, o, Nat.le_refl _, by omega, rfl, Or.inr ⟨by omega, c_24⟩, hO⟩
  · skip
    have c_4 := (ai_eq (a := n) (b := 0) (rfl) (rfl) (by omega) (by omega)).mp c_4
    refine lv_aload_n hx hb dJ24_normalize_7 rfl (lv_at hl 0 rfl) ?_
    refine lv_iconst (v := 0) hx hb dJ24_normalize_8 (by decide) ?_
    refine gw_put (C := RJ24) (T := TJ24) (N := 3) (ty := .int) (v := .int 0) hx hb hts in_J24 tyJ24 tyJ24_ok nmJ24 (hts _ q974) hown hal hO hS (by have hsz := hS.1; (try dsimp only [gfr]) <;> omega) 2 (by decide) (hts _ q981) (fun _ h9 => h9) rfl (by decide +kernel) (rfl) (rfl) (Nat.le_of_ble_eq_true rfl) dJ24_normalize_9 (fun H_8 locs h_new hch hS => ?_)
    have hA := hA.ch hch (by omega)
    have sz_H_8 := hch.1
    clear hch
    have hO : gO z true RJ24 TJ24 3 H_8 a [.ref v, .int (nI n), .int 0] := h_new
    refine g_vret hx hb hr hlocks hS (Nat.le_of_ble_eq_true rfl) (Nat.le_of_ble_eq_true rfl) ?_ dJ24_normalize_12
    refine ⟨0, 0, by omega, by omega, ?_, Or.inl ⟨rfl, rfl⟩, by rw [show n = 0 by omega] at hO; exact hO⟩
    rw [show n = 0 by omega, seg_z, seg_z]
set_option maxHeartbeats 1000000 in
theorem m_clear (l : Launch) (z : State) (H0 : Heap) (a : Nat) (v : Nat) (n o : Int32) (hav : v ≠ a) (hO : gO z true RJ24 TJ24 3 H0 a [.ref v, .int n, .int o]) (hA : gI z true .int H0 v 1 (dI (fun _ => 0))) : Met l yJ24_clear (ws_ yJ24_clear cJ24_clear 3 (none)) { frames := 0, cells := 0, slots := 0, locals := 0 } (gPc z H0 [.ref a]) (gRv (fun q => q = a ∨ q = v) H0 (fun H1 => gO z true RJ24 TJ24 3 H1 a [.ref v, .int 0, .int 0] ∧ gI z true .int H1 v 1 (dI (fun _ => 0)))) 0 0 (fun q => q = a ∨ q = v) := by
  refine g_start (by decide +kernel) (Nat.le_of_ble_eq_true rfl) ?_
  intro p e s m below meth c ls hx hb hr hlocks hml hown hname hts hwm hl
  have hown : s.vm.findClass "java/math/MutableBigInteger" = some m.cls := hown
  have hal : z.vm.Alike s.vm := hwm.alike
  have hCF : CallFix p m c cJ24_clear 3 s [.ref a].toArray lw_all "java/math/MutableBigInteger" := ⟨hx, hb, hml, hown, hts⟩
  have hl : lv_has ls 3 [(0, .ref a)] := hl
  have hS : va_S (fun q => q = a ∨ q = v) H0 H0 [] := va_S.rf
  have lt_a := hO.lt
  have lt_v := hA.lt
  refine lv_aload_n hx hb dJ24_clear_0 rfl (lv_at hl 0 rfl) ?_
  refine lv_aload_n hx hb dJ24_clear_1 rfl (lv_at hl 0 rfl) ?_
  refine lv_iconst (v := 0) hx hb dJ24_clear_2 (by decide) ?_
  refine lv_dup_x1 hx hb dJ24_clear_3 rfl rfl ?_
  refine gw_put (C := RJ24) (T := TJ24) (N := 3) (ty := .int) (v := .int 0) hx hb hts in_J24 tyJ24 tyJ24_ok nmJ24 (hts _ q974) hown hal hO hS (by have hsz := hS.1; (try dsimp only [gfr]) <;> omega) 1 (by decide) (hts _ q980) (fun _ h9 => h9) rfl (by decide +kernel) (rfl) (rfl) (Nat.le_of_ble_eq_true rfl) dJ24_clear_4 (fun H_1 locs h_new hch hS => ?_)
  have hA := hA.ch hch (by omega)
  have sz_H_1 := hch.1
  clear hch
  have hO : gO z true RJ24 TJ24 3 H_1 a [.ref v, .int 0, .int o] := h_new
  refine gw_put (C := RJ24) (T := TJ24) (N := 3) (ty := .int) (v := .int 0) hx hb hts in_J24 tyJ24 tyJ24_ok nmJ24 (hts _ q974) hown hal hO hS (by have hsz := hS.1; (try dsimp only [gfr]) <;> omega) 2 (by decide) (hts _ q981) (fun _ h9 => h9) rfl (by decide +kernel) (rfl) (rfl) (Nat.le_of_ble_eq_true rfl) dJ24_clear_7 (fun H_2 locs h_new hch hS => ?_)
  have hA := hA.ch hch (by omega)
  have sz_H_2 := hch.1
  clear hch
  have hO : gO z true RJ24 TJ24 3 H_2 a [.ref v, .int 0, .int 0] := h_new
  refine lv_iconst (v := 0) hx hb dJ24_clear_10 (by decide) ?_
  refine lv_istore_n hx hb dJ24_clear_11 rfl hl (by decide) rfl (fun ls hl => ?_)
  have hl : lv_has ls 3 [(1, .int 0), (0, .ref a)] := hl
  refine lv_aload_n hx hb dJ24_clear_12 rfl (lv_at hl 1 rfl) ?_
  refine gw_get (C := RJ24) (T := TJ24) (N := 3) (v := .ref v) hx hb hts in_J24 hown hal hO 0 (by decide) (hts _ q979) (fun _ h9 => h9) rfl dJ24_clear_13 ?_
  refine gw_len hx hb hal hA dJ24_clear_16 ?_
  refine lv_istore_n hx hb dJ24_clear_17 rfl hl (by decide) rfl (fun ls hl => ?_)
  have hl : lv_has ls 3 [(2, .int (nI 1)), (1, .int 0), (0, .ref a)] := hl
  refine lv_iload_n hx hb dJ24_clear_18 rfl (lv_at hl 1 rfl) ?_
  refine lv_iload_n hx hb dJ24_clear_19 rfl (lv_at hl 0 rfl) ?_
  refine lv_icmp_ge (tgt := 36) hx hb dJ24_clear_20 (by decide) (fun c_20 => absurd c_20 (by decide)) (fun c_20 => ?_)
  refine lv_aload_n hx hb dJ24_clear_23 rfl (lv_at hl 2 rfl) ?_
  refine gw_get (C := RJ24) (T := TJ24) (N := 3) (v := .ref v) hx hb hts in_J24 hown hal hO 0 (by decide) (hts _ q979) (fun _ h9 => h9) rfl dJ24_clear_24 ?_
  refine lv_iload_n hx hb dJ24_clear_27 rfl (lv_at hl 1 rfl) ?_
  refine lv_iconst (v := 0) hx hb dJ24_clear_28 (by decide) ?_
  refine gw_iast (f := (dI (fun _ => 0))) hx hb hal hA hS (by have hsz := hS.1; (try dsimp only [gfr]) <;> omega) 0 (rfl) (by omega) (by omega) dJ24_clear_29 (fun H_3 locs h_new hch hS => ?_)
  have hO := hO.ch hch (by omega)
  have sz_H_3 := hch.1
  clear hch
  have hA : gI z true .int H_3 v 1 (upd (dI (fun _ => 0)) 0 0) := h_new
  replace hA : gI z true .int H_3 v 1 (dI (dup (fun _ => 0) 0 (0 % 4294967296))) := by
    have q := hA
    rw [show (0 : Int32) = nI 0 from rfl] at q
    rw [dI_put] at q
    exact q
  have bd_4 : ∀ ix, (dup (fun _ => 0) 0 (0 % 4294967296)) ix < 4294967296 := dup_lt (fun _ => by decide) (Nat.mod_lt _ (by decide))
  refine lv_iinc (k := 1) (v := (nI 1)) hx hb dJ24_clear_30 hl rfl (ai_add (a := 0) (b := 1) (rfl) (show Int32.ofInt 1 = nI 1 by decide)) (by decide) rfl (fun ls hl => ?_)
  have hl : lv_has ls 3 [(1, .int (nI 1)), (2, .int (nI 1)), (0, .ref a)] := hl
  refine lv_goto (tgt := 18) hx hb dJ24_clear_33 (by decide) ?_
  refine lv_iload_n hx hb dJ24_clear_18 rfl (lv_at hl 0 rfl) ?_
  refine lv_iload_n hx hb dJ24_clear_19 rfl (lv_at hl 1 rfl) ?_
  refine lv_icmp_ge (tgt := 36) hx hb dJ24_clear_20 (by decide) (fun c_20 => ?_) (fun c_20 => absurd (by decide) c_20)
  refine g_vret hx hb hr hlocks hS (Nat.le_of_ble_eq_true rfl) (Nat.le_of_ble_eq_true rfl) ?_ dJ24_clear_36
  refine ⟨hO, gA.cg hA fun j hj => ?_⟩
  rw [show j = 0 by omega]
  rfl
set_option maxHeartbeats 1000000 in
theorem m_fillI (l : Launch) (z : State) (H0 : Heap) (b : Nat) (n : Nat) (d : Nat → Nat) (hn9 : n < 1000000) (hd : ∀ i, d i < 4294967296) (hA : gI z true .int H0 b n (dI d)) : Met l yJ13_fill_2 (ws_ yJ13_fill_2 cJ13_fill_2 4 (none)) { frames := 0, cells := 0, slots := 0, locals := 0 } (gPc z H0 [.ref b, .int 0]) (gRv (fun q => q = b) H0 (fun H1 => ∃ g, (∀ i, g i < 4294967296) ∧ gI z true .int H1 b n (dI g))) 0 0 (fun q => q = b) := by
  refine g_start (by decide +kernel) (Nat.le_of_ble_eq_true rfl) ?_
  intro p e s m below meth c ls hx hb hr hlocks hml hown hname hts hwm hl
  have hown : s.vm.findClass "java/util/Arrays" = some m.cls := hown
  have hal : z.vm.Alike s.vm := hwm.alike
  have hCF : CallFix p m c cJ13_fill_2 4 s [.ref b, .int 0].toArray lw_all "java/util/Arrays" := ⟨hx, hb, hml, hown, hts⟩
  have hl : lv_has ls 4 [(0, .ref b), (1, .int 0)] := hl
  have hS : va_S (fun q => q = b) H0 H0 [] := va_S.rf
  have lt_b := hA.lt
  refine lv_iconst (v := 0) hx hb dJ13_fill_2_0 (by decide) ?_
  refine lv_istore_n hx hb dJ13_fill_2_1 rfl hl (by decide) rfl (fun ls hl => ?_)
  have hl : lv_has ls 4 [(2, .int 0), (0, .ref b), (1, .int 0)] := hl
  refine lv_aload_n hx hb dJ13_fill_2_2 rfl (lv_at hl 1 rfl) ?_
  refine gw_len hx hb hal hA dJ13_fill_2_3 ?_
  refine lv_istore_n hx hb dJ13_fill_2_4 rfl hl (by decide) rfl (fun ls hl => ?_)
  have hl : lv_has ls 4 [(3, .int (nI n)), (2, .int 0), (0, .ref b), (1, .int 0)] := hl
  have loopA : ∀ (n_ : Nat) (i : Nat) (g : Nat → Nat), (i ≤ n) → (∀ i, g i < 4294967296) → (n - i) < n_ → ∀ (H_1 : Heap) (locs : List Loc), va_S (fun q => q = b) H0 H_1 locs → gI z true .int H_1 b n (dI g) → ∀ (ls : Array Slot), lv_has ls 4 [(3, .int (nI n)), (2, .int (nI i)), (0, .ref b), (1, .int 0)] → W p l e { frames := 0, cells := 0, slots := 0, locals := 0 } s m [.ref b, .int 0].toArray below meth c H_1 locs 0 0 (MQ below (gRv (fun q => q = b) H0 (fun H1 => ∃ g, (∀ i, g i < 4294967296) ∧ gI z true .int H1 b n (dI g))) [.ref b, .int 0].toArray s 0 0 (fun q => q = b)) (F0 m 5 ls []) := by
    intro n_
    induction n_ with
    | zero => intro i g hi hg hm_; exact absurd hm_ (Nat.not_lt_zero _)
    | succ n_ ih_loopA =>
      intro i g hi hg hm_ H_1 locs hS hA ls hl
      refine lv_iload_n hx hb dJ13_fill_2_5 rfl (lv_at hl 1 rfl) ?_
      refine lv_iload_n hx hb dJ13_fill_2_6 rfl (lv_at hl 0 rfl) ?_
      refine lv_icmp_ge (tgt := 20) hx hb dJ13_fill_2_7 (by decide) (fun c_7 => ?_) (fun c_7 => ?_)
      · skip
        have c_7 := (ai_le (a := n) (b := i) (rfl) (rfl) (by omega) (by omega)).mp c_7
        refine g_vret hx hb hr hlocks hS (Nat.le_of_ble_eq_true rfl) (Nat.le_of_ble_eq_true rfl) ?_ dJ13_fill_2_20
        exact ⟨_, hg, hA⟩
      · skip
        have c_7 := mt (ai_le (a := n) (b := i) (rfl) (rfl) (by omega) (by omega)).mpr c_7
        refine lv_aload_n hx hb dJ13_fill_2_10 rfl (lv_at hl 2 rfl) ?_
        refine lv_iload_n hx hb dJ13_fill_2_11 rfl (lv_at hl 1 rfl) ?_
        refine lv_iload_n hx hb dJ13_fill_2_12 rfl (lv_at hl 3 rfl) ?_
        refine gw_iast (f := (dI g)) hx hb hal hA hS (by have hsz := hS.1; (try dsimp only [gfr]) <;> omega) i (rfl) (by omega) (by omega) dJ13_fill_2_13 (fun H_2 locs h_new hch hS => ?_)
        have sz_H_2 := hch.1
        clear hch
        have hA : gI z true .int H_2 b n (upd (dI g) i 0) := h_new
        replace hA : gI z true .int H_2 b n (dI (dup g i (0 % 4294967296))) := by
          have q := hA
          rw [show (0 : Int32) = nI 0 from rfl] at q
          rw [dI_put] at q
          exact q
        have bd_3 : ∀ ix, (dup g i (0 % 4294967296)) ix < 4294967296 := dup_lt hg (Nat.mod_lt _ (by decide))
        refine lv_iinc (k := 1) (v := (nI (i + 1))) hx hb dJ13_fill_2_14 hl rfl (ai_add (a := i) (b := 1) (rfl) (show Int32.ofInt 1 = nI 1 by decide)) (by decide) rfl (fun ls hl => ?_)
        have hl : lv_has ls 4 [(2, .int (nI (i + 1))), (3, .int (nI n)), (0, .ref b), (1, .int 0)] := hl
        refine lv_goto (tgt := 5) hx hb dJ13_fill_2_17 (by decide) ?_
        exact ih_loopA (i + 1) (dup g i (0 % 4294967296)) (by omega) bd_3 (by omega) H_2 _ hS hA ls (lv_sub hl [1, 0, 2, 3] rfl)
  exact loopA _ 0 d (Nat.zero_le _) hd (Nat.lt_succ_self _) H0 _ hS hA ls (lv_sub hl [0, 1, 2, 3] rfl)
