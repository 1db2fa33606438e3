/-! ## walks (written by tools) -/
set_option maxRecDepth 100000
def dkwJ23_floorOrCeil_5 : List UInt8 := [24, 13, 24, 6, 99, 57, 13, 24, 13, 175]
abbrev dktJ23_floorOrCeil_5 : List UInt8 := dkwJ23_floorOrCeil_5 ++ []
def dkwJ23_floorOrCeil_4 : List UInt8 := [175, 22, 9, 22, 11, 20, 0, 87, 131, 127, 184, 0, 89, 57, 13, 24, 6, 38, 107, 14, 151, 158, 0, 10]
abbrev dktJ23_floorOrCeil_4 : List UInt8 := dkwJ23_floorOrCeil_4 ++ dktJ23_floorOrCeil_5
def dkwJ23_floorOrCeil_3 : List UInt8 := [184, 0, 77, 55, 9, 20, 0, 85, 21, 8, 123, 55, 11, 22, 11, 22, 9, 127, 9, 148, 154, 0, 5, 38]
abbrev dktJ23_floorOrCeil_3 : List UInt8 := dkwJ23_floorOrCeil_3 ++ dktJ23_floorOrCeil_4
def dkwJ23_floorOrCeil_2 : List UInt8 := [154, 0, 23, 21, 8, 155, 0, 10, 21, 8, 16, 51, 164, 0, 11, 187, 0, 74, 89, 183, 0, 76, 191, 38]
abbrev dktJ23_floorOrCeil_2 : List UInt8 := dkwJ23_floorOrCeil_2 ++ dktJ23_floorOrCeil_3
def dkwJ23_floorOrCeil_1 : List UInt8 := [156, 0, 7, 40, 167, 0, 5, 24, 4, 175, 21, 8, 16, 52, 161, 0, 5, 38, 175, 178, 0, 70]
abbrev dktJ23_floorOrCeil_1 : List UInt8 := dkwJ23_floorOrCeil_1 ++ dktJ23_floorOrCeil_2
def dkwJ23_floorOrCeil_0 : List UInt8 := [38, 184, 0, 66, 54, 8, 21, 8, 156, 0, 26, 38, 14, 151, 154, 0, 7, 38, 167, 0, 15, 38, 14, 152]
abbrev dktJ23_floorOrCeil_0 : List UInt8 := dkwJ23_floorOrCeil_0 ++ dktJ23_floorOrCeil_1
theorem dksJ23_floorOrCeil_0 : cJ23_floorOrCeil.data.toList.drop 0 = dktJ23_floorOrCeil_0 := by decide +kernel
theorem dksJ23_floorOrCeil_1 : cJ23_floorOrCeil.data.toList.drop 24 = dktJ23_floorOrCeil_1 := dk_seg dksJ23_floorOrCeil_0 24 rfl rfl
theorem dksJ23_floorOrCeil_2 : cJ23_floorOrCeil.data.toList.drop 46 = dktJ23_floorOrCeil_2 := dk_seg dksJ23_floorOrCeil_1 22 rfl rfl
theorem dksJ23_floorOrCeil_3 : cJ23_floorOrCeil.data.toList.drop 70 = dktJ23_floorOrCeil_3 := dk_seg dksJ23_floorOrCeil_2 24 rfl rfl
theorem dksJ23_floorOrCeil_4 : cJ23_floorOrCeil.data.toList.drop 94 = dktJ23_floorOrCeil_4 := dk_seg dksJ23_floorOrCeil_3 24 rfl rfl
theorem dksJ23_floorOrCeil_5 : cJ23_floorOrCeil.data.toList.drop 118 = dktJ23_floorOrCeil_5 := dk_seg dksJ23_floorOrCeil_4 24 rfl rfl
theorem dJ23_floorOrCeil_0 : decode cJ23_floorOrCeil 0 = .ok (.dload_n 0, 1) := dk_38 (dk_at dksJ23_floorOrCeil_0 0 rfl rfl)
theorem dJ23_floorOrCeil_1 : decode cJ23_floorOrCeil 1 = .ok (.invokestatic 66, 3) := dk_184 0 66 (dk_at dksJ23_floorOrCeil_0 1 rfl rfl)
theorem dJ23_floorOrCeil_4 : decode cJ23_floorOrCeil 4 = .ok (.istore 8, 2) := dk_54 8 (dk_at dksJ23_floorOrCeil_0 4 rfl rfl)
theorem dJ23_floorOrCeil_6 : decode cJ23_floorOrCeil 6 = .ok (.iload 8, 2) := dk_21 8 (dk_at dksJ23_floorOrCeil_0 6 rfl rfl)
theorem dJ23_floorOrCeil_8 : decode cJ23_floorOrCeil 8 = .ok (.ifCond .ge 26, 3) := dk_156 0 26 (dk_at dksJ23_floorOrCeil_0 8 rfl rfl)
theorem dJ23_floorOrCeil_11 : decode cJ23_floorOrCeil 11 = .ok (.dload_n 0, 1) := dk_38 (dk_at dksJ23_floorOrCeil_0 11 rfl rfl)
theorem dJ23_floorOrCeil_12 : decode cJ23_floorOrCeil 12 = .ok (.dconst 0, 1) := dk_14 (dk_at dksJ23_floorOrCeil_0 12 rfl rfl)
theorem dJ23_floorOrCeil_13 : decode cJ23_floorOrCeil 13 = .ok (.dcmp .l, 1) := dk_151 (dk_at dksJ23_floorOrCeil_0 13 rfl rfl)
theorem dJ23_floorOrCeil_14 : decode cJ23_floorOrCeil 14 = .ok (.ifCond .ne 7, 3) := dk_154 0 7 (dk_at dksJ23_floorOrCeil_0 14 rfl rfl)
theorem dJ23_floorOrCeil_17 : decode cJ23_floorOrCeil 17 = .ok (.dload_n 0, 1) := dk_38 (dk_at dksJ23_floorOrCeil_0 17 rfl rfl)
theorem dJ23_floorOrCeil_18 : decode cJ23_floorOrCeil 18 = .ok (.goto 15, 3) := dk_167 0 15 (dk_at dksJ23_floorOrCeil_0 18 rfl rfl)
theorem dJ23_floorOrCeil_21 : decode cJ23_floorOrCeil 21 = .ok (.dload_n 0, 1) := dk_38 (dk_at dksJ23_floorOrCeil_0 21 rfl rfl)
theorem dJ23_floorOrCeil_22 : decode cJ23_floorOrCeil 22 = .ok (.dconst 0, 1) := dk_14 (dk_at dksJ23_floorOrCeil_0 22 rfl rfl)
theorem dJ23_floorOrCeil_23 : decode cJ23_floorOrCeil 23 = .ok (.dcmp .g, 1) := dk_152 (dk_at dksJ23_floorOrCeil_0 23 rfl rfl)
theorem dJ23_floorOrCeil_24 : decode cJ23_floorOrCeil 24 = .ok (.ifCond .ge 7, 3) := dk_156 0 7 (dk_at dksJ23_floorOrCeil_1 0 rfl rfl)
theorem dJ23_floorOrCeil_27 : decode cJ23_floorOrCeil 27 = .ok (.dload_n 2, 1) := dk_40 (dk_at dksJ23_floorOrCeil_1 3 rfl rfl)
theorem dJ23_floorOrCeil_28 : decode cJ23_floorOrCeil 28 = .ok (.goto 5, 3) := dk_167 0 5 (dk_at dksJ23_floorOrCeil_1 4 rfl rfl)
theorem dJ23_floorOrCeil_31 : decode cJ23_floorOrCeil 31 = .ok (.dload 4, 2) := dk_24 4 (dk_at dksJ23_floorOrCeil_1 7 rfl rfl)
theorem dJ23_floorOrCeil_33 : decode cJ23_floorOrCeil 33 = .ok (.dreturn, 1) := dk_175 (dk_at dksJ23_floorOrCeil_1 9 rfl rfl)
theorem dJ23_floorOrCeil_34 : decode cJ23_floorOrCeil 34 = .ok (.iload 8, 2) := dk_21 8 (dk_at dksJ23_floorOrCeil_1 10 rfl rfl)
theorem dJ23_floorOrCeil_36 : decode cJ23_floorOrCeil 36 = .ok (.bipush 52, 2) := dk_16 52 (dk_at dksJ23_floorOrCeil_1 12 rfl rfl)
theorem dJ23_floorOrCeil_38 : decode cJ23_floorOrCeil 38 = .ok (.if_icmp .lt 5, 3) := dk_161 0 5 (dk_at dksJ23_floorOrCeil_1 14 rfl rfl)
theorem dJ23_floorOrCeil_41 : decode cJ23_floorOrCeil 41 = .ok (.dload_n 0, 1) := dk_38 (dk_at dksJ23_floorOrCeil_1 17 rfl rfl)
theorem dJ23_floorOrCeil_42 : decode cJ23_floorOrCeil 42 = .ok (.dreturn, 1) := dk_175 (dk_at dksJ23_floorOrCeil_1 18 rfl rfl)
theorem dJ23_floorOrCeil_43 : decode cJ23_floorOrCeil 43 = .ok (.getstatic 70, 3) := dk_178 0 70 (dk_at dksJ23_floorOrCeil_1 19 rfl rfl)
theorem dJ23_floorOrCeil_46 : decode cJ23_floorOrCeil 46 = .ok (.ifCond .ne 23, 3) := dk_154 0 23 (dk_at dksJ23_floorOrCeil_2 0 rfl rfl)
theorem dJ23_floorOrCeil_49 : decode cJ23_floorOrCeil 49 = .ok (.iload 8, 2) := dk_21 8 (dk_at dksJ23_floorOrCeil_2 3 rfl rfl)
theorem dJ23_floorOrCeil_51 : decode cJ23_floorOrCeil 51 = .ok (.ifCond .lt 10, 3) := dk_155 0 10 (dk_at dksJ23_floorOrCeil_2 5 rfl rfl)
theorem dJ23_floorOrCeil_54 : decode cJ23_floorOrCeil 54 = .ok (.iload 8, 2) := dk_21 8 (dk_at dksJ23_floorOrCeil_2 8 rfl rfl)
theorem dJ23_floorOrCeil_56 : decode cJ23_floorOrCeil 56 = .ok (.bipush 51, 2) := dk_16 51 (dk_at dksJ23_floorOrCeil_2 10 rfl rfl)
theorem dJ23_floorOrCeil_58 : decode cJ23_floorOrCeil 58 = .ok (.if_icmp .le 11, 3) := dk_164 0 11 (dk_at dksJ23_floorOrCeil_2 12 rfl rfl)
theorem dJ23_floorOrCeil_61 : decode cJ23_floorOrCeil 61 = .ok (.new 74, 3) := dk_187 0 74 (dk_at dksJ23_floorOrCeil_2 15 rfl rfl)
theorem dJ23_floorOrCeil_64 : decode cJ23_floorOrCeil 64 = .ok (.dup, 1) := dk_89 (dk_at dksJ23_floorOrCeil_2 18 rfl rfl)
theorem dJ23_floorOrCeil_65 : decode cJ23_floorOrCeil 65 = .ok (.invokespecial 76, 3) := dk_183 0 76 (dk_at dksJ23_floorOrCeil_2 19 rfl rfl)
theorem dJ23_floorOrCeil_68 : decode cJ23_floorOrCeil 68 = .ok (.athrow, 1) := dk_191 (dk_at dksJ23_floorOrCeil_2 22 rfl rfl)
theorem dJ23_floorOrCeil_69 : decode cJ23_floorOrCeil 69 = .ok (.dload_n 0, 1) := dk_38 (dk_at dksJ23_floorOrCeil_2 23 rfl rfl)
theorem dJ23_floorOrCeil_70 : decode cJ23_floorOrCeil 70 = .ok (.invokestatic 77, 3) := dk_184 0 77 (dk_at dksJ23_floorOrCeil_3 0 rfl rfl)
theorem dJ23_floorOrCeil_73 : decode cJ23_floorOrCeil 73 = .ok (.lstore 9, 2) := dk_55 9 (dk_at dksJ23_floorOrCeil_3 3 rfl rfl)
theorem dJ23_floorOrCeil_75 : decode cJ23_floorOrCeil 75 = .ok (.ldc2_w 85, 3) := dk_20 0 85 (dk_at dksJ23_floorOrCeil_3 5 rfl rfl)
theorem dJ23_floorOrCeil_78 : decode cJ23_floorOrCeil 78 = .ok (.iload 8, 2) := dk_21 8 (dk_at dksJ23_floorOrCeil_3 8 rfl rfl)
theorem dJ23_floorOrCeil_80 : decode cJ23_floorOrCeil 80 = .ok (.lshr, 1) := dk_123 (dk_at dksJ23_floorOrCeil_3 10 rfl rfl)
theorem dJ23_floorOrCeil_81 : decode cJ23_floorOrCeil 81 = .ok (.lstore 11, 2) := dk_55 11 (dk_at dksJ23_floorOrCeil_3 11 rfl rfl)
theorem dJ23_floorOrCeil_83 : decode cJ23_floorOrCeil 83 = .ok (.lload 11, 2) := dk_22 11 (dk_at dksJ23_floorOrCeil_3 13 rfl rfl)
theorem dJ23_floorOrCeil_85 : decode cJ23_floorOrCeil 85 = .ok (.lload 9, 2) := dk_22 9 (dk_at dksJ23_floorOrCeil_3 15 rfl rfl)
theorem dJ23_floorOrCeil_87 : decode cJ23_floorOrCeil 87 = .ok (.land, 1) := dk_127 (dk_at dksJ23_floorOrCeil_3 17 rfl rfl)
theorem dJ23_floorOrCeil_88 : decode cJ23_floorOrCeil 88 = .ok (.lconst 0, 1) := dk_9 (dk_at dksJ23_floorOrCeil_3 18 rfl rfl)
theorem dJ23_floorOrCeil_89 : decode cJ23_floorOrCeil 89 = .ok (.lcmp, 1) := dk_148 (dk_at dksJ23_floorOrCeil_3 19 rfl rfl)
theorem dJ23_floorOrCeil_90 : decode cJ23_floorOrCeil 90 = .ok (.ifCond .ne 5, 3) := dk_154 0 5 (dk_at dksJ23_floorOrCeil_3 20 rfl rfl)
theorem dJ23_floorOrCeil_93 : decode cJ23_floorOrCeil 93 = .ok (.dload_n 0, 1) := dk_38 (dk_at dksJ23_floorOrCeil_3 23 rfl rfl)
theorem dJ23_floorOrCeil_94 : decode cJ23_floorOrCeil 94 = .ok (.dreturn, 1) := dk_175 (dk_at dksJ23_floorOrCeil_4 0 rfl rfl)
theorem dJ23_floorOrCeil_95 : decode cJ23_floorOrCeil 95 = .ok (.lload 9, 2) := dk_22 9 (dk_at dksJ23_floorOrCeil_4 1 rfl rfl)
theorem dJ23_floorOrCeil_97 : decode cJ23_floorOrCeil 97 = .ok (.lload 11, 2) := dk_22 11 (dk_at dksJ23_floorOrCeil_4 3 rfl rfl)
theorem dJ23_floorOrCeil_99 : decode cJ23_floorOrCeil 99 = .ok (.ldc2_w 87, 3) := dk_20 0 87 (dk_at dksJ23_floorOrCeil_4 5 rfl rfl)
theorem dJ23_floorOrCeil_102 : decode cJ23_floorOrCeil 102 = .ok (.lxor, 1) := dk_131 (dk_at dksJ23_floorOrCeil_4 8 rfl rfl)
theorem dJ23_floorOrCeil_103 : decode cJ23_floorOrCeil 103 = .ok (.land, 1) := dk_127 (dk_at dksJ23_floorOrCeil_4 9 rfl rfl)
theorem dJ23_floorOrCeil_104 : decode cJ23_floorOrCeil 104 = .ok (.invokestatic 89, 3) := dk_184 0 89 (dk_at dksJ23_floorOrCeil_4 10 rfl rfl)
theorem dJ23_floorOrCeil_107 : decode cJ23_floorOrCeil 107 = .ok (.dstore 13, 2) := dk_57 13 (dk_at dksJ23_floorOrCeil_4 13 rfl rfl)
theorem dJ23_floorOrCeil_109 : decode cJ23_floorOrCeil 109 = .ok (.dload 6, 2) := dk_24 6 (dk_at dksJ23_floorOrCeil_4 15 rfl rfl)
theorem dJ23_floorOrCeil_111 : decode cJ23_floorOrCeil 111 = .ok (.dload_n 0, 1) := dk_38 (dk_at dksJ23_floorOrCeil_4 17 rfl rfl)
theorem dJ23_floorOrCeil_112 : decode cJ23_floorOrCeil 112 = .ok (.dmul, 1) := dk_107 (dk_at dksJ23_floorOrCeil_4 18 rfl rfl)
theorem dJ23_floorOrCeil_113 : decode cJ23_floorOrCeil 113 = .ok (.dconst 0, 1) := dk_14 (dk_at dksJ23_floorOrCeil_4 19 rfl rfl)
theorem dJ23_floorOrCeil_114 : decode cJ23_floorOrCeil 114 = .ok (.dcmp .l, 1) := dk_151 (dk_at dksJ23_floorOrCeil_4 20 rfl rfl)
theorem dJ23_floorOrCeil_115 : decode cJ23_floorOrCeil 115 = .ok (.ifCond .le 10, 3) := dk_158 0 10 (dk_at dksJ23_floorOrCeil_4 21 rfl rfl)
theorem dJ23_floorOrCeil_118 : decode cJ23_floorOrCeil 118 = .ok (.dload 13, 2) := dk_24 13 (dk_at dksJ23_floorOrCeil_5 0 rfl rfl)
theorem dJ23_floorOrCeil_120 : decode cJ23_floorOrCeil 120 = .ok (.dload 6, 2) := dk_24 6 (dk_at dksJ23_floorOrCeil_5 2 rfl rfl)
theorem dJ23_floorOrCeil_122 : decode cJ23_floorOrCeil 122 = .ok (.dadd, 1) := dk_99 (dk_at dksJ23_floorOrCeil_5 4 rfl rfl)
theorem dJ23_floorOrCeil_123 : decode cJ23_floorOrCeil 123 = .ok (.dstore 13, 2) := dk_57 13 (dk_at dksJ23_floorOrCeil_5 5 rfl rfl)
theorem dJ23_floorOrCeil_125 : decode cJ23_floorOrCeil 125 = .ok (.dload 13, 2) := dk_24 13 (dk_at dksJ23_floorOrCeil_5 7 rfl rfl)
theorem dJ23_floorOrCeil_127 : decode cJ23_floorOrCeil 127 = .ok (.dreturn, 1) := dk_175 (dk_at dksJ23_floorOrCeil_5 9 rfl rfl)
def dkwJ23_floor_0 : List UInt8 := [38, 20, 0, 64, 14, 20, 0, 64, 184, 0, 60, 175]
abbrev dktJ23_floor_0 : List UInt8 := dkwJ23_floor_0 ++ []
theorem dksJ23_floor_0 : cJ23_floor.data.toList.drop 0 = dktJ23_floor_0 := by decide +kernel
theorem dJ23_floor_0 : decode cJ23_floor 0 = .ok (.dload_n 0, 1) := dk_38 (dk_at dksJ23_floor_0 0 rfl rfl)
theorem dJ23_floor_1 : decode cJ23_floor 1 = .ok (.ldc2_w 64, 3) := dk_20 0 64 (dk_at dksJ23_floor_0 1 rfl rfl)
theorem dJ23_floor_4 : decode cJ23_floor 4 = .ok (.dconst 0, 1) := dk_14 (dk_at dksJ23_floor_0 4 rfl rfl)
theorem dJ23_floor_5 : decode cJ23_floor 5 = .ok (.ldc2_w 64, 3) := dk_20 0 64 (dk_at dksJ23_floor_0 5 rfl rfl)
theorem dJ23_floor_8 : decode cJ23_floor 8 = .ok (.invokestatic 60, 3) := dk_184 0 60 (dk_at dksJ23_floor_0 8 rfl rfl)
theorem dJ23_floor_11 : decode cJ23_floor 11 = .ok (.dreturn, 1) := dk_175 (dk_at dksJ23_floor_0 11 rfl rfl)
def dkwJ9_isInfinite_0 : List UInt8 := [38, 184, 0, 38, 20, 0, 111, 151, 158, 0, 7, 4, 167, 0, 4, 3, 172]
abbrev dktJ9_isInfinite_0 : List UInt8 := dkwJ9_isInfinite_0 ++ []
theorem dksJ9_isInfinite_0 : cJ9_isInfinite.data.toList.drop 0 = dktJ9_isInfinite_0 := by decide +kernel
theorem dJ9_isInfinite_0 : decode cJ9_isInfinite 0 = .ok (.dload_n 0, 1) := dk_38 (dk_at dksJ9_isInfinite_0 0 rfl rfl)
theorem dJ9_isInfinite_1 : decode cJ9_isInfinite 1 = .ok (.invokestatic 38, 3) := dk_184 0 38 (dk_at dksJ9_isInfinite_0 1 rfl rfl)
theorem dJ9_isInfinite_4 : decode cJ9_isInfinite 4 = .ok (.ldc2_w 111, 3) := dk_20 0 111 (dk_at dksJ9_isInfinite_0 4 rfl rfl)
theorem dJ9_isInfinite_7 : decode cJ9_isInfinite 7 = .ok (.dcmp .l, 1) := dk_151 (dk_at dksJ9_isInfinite_0 7 rfl rfl)
theorem dJ9_isInfinite_8 : decode cJ9_isInfinite 8 = .ok (.ifCond .le 7, 3) := dk_158 0 7 (dk_at dksJ9_isInfinite_0 8 rfl rfl)
theorem dJ9_isInfinite_11 : decode cJ9_isInfinite 11 = .ok (.iconst 1, 1) := dk_4 (dk_at dksJ9_isInfinite_0 11 rfl rfl)
theorem dJ9_isInfinite_12 : decode cJ9_isInfinite 12 = .ok (.goto 4, 3) := dk_167 0 4 (dk_at dksJ9_isInfinite_0 12 rfl rfl)
theorem dJ9_isInfinite_15 : decode cJ9_isInfinite 15 = .ok (.iconst 0, 1) := dk_3 (dk_at dksJ9_isInfinite_0 15 rfl rfl)
theorem dJ9_isInfinite_16 : decode cJ9_isInfinite 16 = .ok (.ireturn, 1) := dk_172 (dk_at dksJ9_isInfinite_0 16 rfl rfl)
theorem yd_J12_abs : yJ12_abs.cls ≠ "java/lang/invoke/MethodHandle" ∧ yJ12_abs.cls ≠ "java/lang/invoke/VarHandle" ∧ (parseMethodDescriptor yJ12_abs.desc).map (fun d => d.parameters.length) = some 1 := by decide +kernel
theorem yd_J23_floorOrCeil : yJ23_floorOrCeil.cls ≠ "java/lang/invoke/MethodHandle" ∧ yJ23_floorOrCeil.cls ≠ "java/lang/invoke/VarHandle" ∧ (parseMethodDescriptor yJ23_floorOrCeil.desc).map (fun d => d.parameters.length) = some 4 := by decide +kernel
/-! ### floor, of a positive number below 2^52 -/
def flm (x : UInt64) : Int64 := (4503599627370495 : Int64) >>> ((iI ((dE x : Int) - 1023)).toInt64 &&& 63)
def flz (x : UInt64) : Int64 := x.toInt64 &&& (flm x ^^^ -1)
def flr (x : UInt64) : UInt64 := if dE x < 1023 then 0 else if (flm x &&& x.toInt64) = 0 then x else (flz x).toUInt64
/-- what is asked of such a number -/
def flo (x : UInt64) : Prop := (dFin x ∧ dS x = false ∧ dP x ≠ 0 ∧ dE x < 1075) ∧ (dNum (FP.dmul 13830554455654793216 x) ∧ dK (FP.dmul 13830554455654793216 x) ≤ 0) ∧ vn_snl2d (flz x) = false
theorem flo.K {x : UInt64} (h : flo x) : 0 < dK x := by
  rw [dK_eq, h.1.2.1]
  have := h.1.2.2.1
  simp
  omega
theorem flo.c1 {x : UInt64} (h : flo x) : cK x 0 ≠ 0 := by
  have e : dK 0 = 0 := by decide
  have := h.K
  rw [Ne, cK_eq]
  omega
theorem flo.c2 {x : UInt64} (h : flo x) : 0 ≤ cK x 0 := by
  have e : dK 0 = 0 := by decide
  have := h.K
  rw [cK_ge]
  omega
theorem flo.c3 {x : UInt64} (h : flo x) : cK (FP.dmul 13830554455654793216 x) 0 ≤ 0 := by
  have e : dK 0 = 0 := by decide
  have := h.2.1.2
  rw [cK_le]
  omega
theorem flo.e {x : UInt64} (h : flo x) : dE x < 1075 := h.1.2.2.2
theorem flr_1 {x : UInt64} (h : flo x) (c : ¬ (0 ≤ iI ((dE x : Int) - 1023))) : flr x = 0 := by
  have := h.e
  unfold flr
  rw [if_pos]
  rw [show (0 : Int32) = iI 0 from rfl, iI_le (by omega) (by omega) (by omega) (by omega)] at c
  omega
theorem flr_2 {x : UInt64} (h : flo x) (c : 0 ≤ iI ((dE x : Int) - 1023)) (c2 : lg_cmp (flm x &&& x.toInt64) 0 = 0) : flr x = x := by
  have := h.e
  unfold flr
  rw [show (0 : Int32) = iI 0 from rfl, iI_le (by omega) (by omega) (by omega) (by omega)] at c
  rw [if_neg (by omega), if_pos]
  exact Int64.toInt_inj.mp (lc_eq.mp c2)
theorem flr_3 {x : UInt64} (h : flo x) (c : 0 ≤ iI ((dE x : Int) - 1023)) (c2 : ¬ lg_cmp (flm x &&& x.toInt64) 0 = 0) : flr x = (flz x).toUInt64 := by
  have := h.e
  unfold flr
  rw [show (0 : Int32) = iI 0 from rfl, iI_le (by omega) (by omega) (by omega) (by omega)] at c
  rw [if_neg (by omega), if_neg]
  intro q
  exact c2 (lc_eq.mpr (by rw [q]))
theorem flo.c52 {x : UInt64} (h : flo x) : iI ((dE x : Int) - 1023) < 52 := by
  have := h.e
  rw [show (52 : Int32) = iI 52 from rfl, iI_lt (by omega) (by omega) (by omega) (by omega)]
  omega

set_option maxHeartbeats 1000000 in
theorem m_floorOrCeil (l : Launch) (z : State) (H0 : Heap) (x : UInt64)  (hx0 : flo x) (hg : gZ z "java/lang/StrictMath" "$assertionsDisabled" "Z" (.int 1) gno H0) : Met l yJ23_floorOrCeil (ws_ yJ23_floorOrCeil cJ23_floorOrCeil 15 (some .double)) { frames := 2, cells := 0, slots := 0, locals := 44 } (gPc z H0 [.double x, .double 13830554455654793216, .double 0, .double 13830554455654793216]) (gPd H0 (fun r => r = flr x)) 0 0 gno := by
  refine g_start (by decide +kernel) (Nat.le_of_ble_eq_true rfl) ?_
  intro p e s m below meth c ls hx hb hr hlocks hml hown hname hts hwm hl
  have hown : s.vm.findClass "java/lang/StrictMath" = some m.cls := hown
  have hal : z.vm.Alike s.vm := hwm.alike
  have hCF : CallFix p m c cJ23_floorOrCeil 15 s [.double x, .double 13830554455654793216, .double 0, .double 13830554455654793216].toArray lw_all "java/lang/StrictMath" := ⟨hx, hb, hml, hown, hts⟩
  have hl : lv_has ls 15 [(0, .double x), (2, .double 13830554455654793216), (4, .double 0), (6, .double 13830554455654793216)] := hl
  refine lv_dload_n hx hb dJ23_floorOrCeil_0 rfl (lv_at hl 0 rfl) ?_
  refine gcS1_iP hCF hwm hl.1 (m_getExponent l z H0 x hx0.1.1.num ) (lw_S q884 q885 q72 q886) yd_J12_getExponent ⟨Nat.le_of_ble_eq_true rfl, Nat.le_of_ble_eq_true rfl⟩ ⟨Nat.le_of_ble_eq_true rfl, Nat.le_of_ble_eq_true rfl⟩ (Nat.le_of_ble_eq_true rfl) dJ23_floorOrCeil_1 (fun r_1 hp => ?_)
  subst hp
  refine lv_istore hx hb dJ23_floorOrCeil_4 hl (by decide) rfl (fun ls hl => ?_)
  have hl : lv_has ls 15 [(8, .int (iI ((dE x : Int) - 1023))), (0, .double x), (2, .double 13830554455654793216), (4, .double 0), (6, .double 13830554455654793216)] := hl
  refine lv_iload hx hb dJ23_floorOrCeil_6 (lv_at hl 0 rfl) ?_
  refine lv_if_ge (tgt := 34) hx hb dJ23_floorOrCeil_8 (by decide) (fun c_8 => ?_) (fun c_8 => ?_)
  · skip
    refine lv_iload hx hb dJ23_floorOrCeil_34 (lv_at hl 0 rfl) ?_
    refine lv_bipush (v := 52) hx hb dJ23_floorOrCeil_36 (by decide) ?_
    refine lv_icmp_lt (tgt := 43) hx hb dJ23_floorOrCeil_38 (by decide) (fun c_38 => ?_) (fun c_38 => absurd (hx0.c52) c_38)
    refine gw_getsP hx hb hal hg hown (hts _ q890) (fun _ h9 => h9) dJ23_floorOrCeil_43 ?_
    refine lv_if_ne (tgt := 69) hx hb dJ23_floorOrCeil_46 (by decide) (fun c_46 => ?_) (fun c_46 => absurd c_46 (by decide))
    refine lv_dload_n hx hb dJ23_floorOrCeil_69 rfl (lv_at hl 1 rfl) ?_
    refine vn_d2l hx hb (hml.trans hl.1.symm) hown (hts _ q892) (hts _ q207) (hts _ q206) (hts _ q69) (Nat.le_of_ble_eq_true rfl) (Nat.le_of_ble_eq_true rfl) dJ23_floorOrCeil_70 ?_
    refine lv_lstore hx hb dJ23_floorOrCeil_73 hl (by decide) rfl (fun ls hl => ?_)
    have hl : lv_has ls 15 [(9, .long x.toInt64), (8, .int (iI ((dE x : Int) - 1023))), (0, .double x), (2, .double 13830554455654793216), (4, .double 0), (6, .double 13830554455654793216)] := hl
    refine lv_ldc2 (v := 4503599627370495) hx hb hown (hts _ q893) dJ23_floorOrCeil_75 ?_
    refine lv_iload hx hb dJ23_floorOrCeil_78 (lv_at hl 1 rfl) ?_
    refine lv_lshr hx hb dJ23_floorOrCeil_80 rfl ?_
    refine g_topl (v := (flm x)) (rfl) ?_
    refine lv_lstore hx hb dJ23_floorOrCeil_81 hl (by decide) rfl (fun ls hl => ?_)
    have hl : lv_has ls 15 [(11, .long (flm x)), (9, .long x.toInt64), (8, .int (iI ((dE x : Int) - 1023))), (0, .double x), (2, .double 13830554455654793216), (4, .double 0), (6, .double 13830554455654793216)] := hl
    refine lv_lload hx hb dJ23_floorOrCeil_83 (lv_at hl 0 rfl) ?_
    refine lv_lload hx hb dJ23_floorOrCeil_85 (lv_at hl 1 rfl) ?_
    refine lv_land hx hb dJ23_floorOrCeil_87 ?_
    refine lv_lconst (v := 0) hx hb dJ23_floorOrCeil_88 (by decide) ?_
    refine W.lcmp hx hb dJ23_floorOrCeil_89 ?_
    refine lv_if_ne (tgt := 95) hx hb dJ23_floorOrCeil_90 (by decide) (fun c_90 => ?_) (fun c_90 => ?_)
    · skip
      refine lv_lload hx hb dJ23_floorOrCeil_95 (lv_at hl 1 rfl) ?_
      refine lv_lload hx hb dJ23_floorOrCeil_97 (lv_at hl 0 rfl) ?_
      refine lv_ldc2 (v := -1) hx hb hown (hts _ q894) dJ23_floorOrCeil_99 ?_
      refine lv_lxor hx hb dJ23_floorOrCeil_102 ?_
      refine lv_land hx hb dJ23_floorOrCeil_103 ?_
      refine g_topl (v := (flz x)) (by subst_vars; rfl) ?_
      refine vn_l2d hx hb (hml.trans hl.1.symm) hown (hts _ q895) (hts _ q897) (hts _ q896) (hts _ q69) (hx0.2.2) (Nat.le_of_ble_eq_true rfl) (Nat.le_of_ble_eq_true rfl) dJ23_floorOrCeil_104 ?_
      refine lv_dstore hx hb dJ23_floorOrCeil_107 hl (by decide) rfl (fun ls hl => ?_)
      have hl : lv_has ls 15 [(13, .double ((flz x).toUInt64)), (11, .long (flm x)), (9, .long x.toInt64), (8, .int (iI ((dE x : Int) - 1023))), (0, .double x), (2, .double 13830554455654793216), (4, .double 0), (6, .double 13830554455654793216)] := hl
      refine lv_dload hx hb dJ23_floorOrCeil_109 (lv_at hl 7 rfl) ?_
      refine lv_dload_n hx hb dJ23_floorOrCeil_111 rfl (lv_at hl 4 rfl) ?_
      refine lv_dmul hx hb dJ23_floorOrCeil_112 (n64 hx0.2.1.1) ?_
      refine lv_dconst0 hx hb dJ23_floorOrCeil_113 ?_
      refine lv_dcmp hx hb dJ23_floorOrCeil_114 ?_
      refine g_topi (v := (cK (FP.dmul 13830554455654793216 x) 0)) (cK_of hx0.2.1.1 num0) ?_
      refine lv_if_le (tgt := 125) hx hb dJ23_floorOrCeil_115 (by decide) (fun c_115 => ?_) (fun c_115 => absurd (hx0.c3) c_115)
      refine lv_dload hx hb dJ23_floorOrCeil_125 (lv_at hl 0 rfl) ?_
      refine g_dretP hx hb hr hlocks ?_ dJ23_floorOrCeil_127
      first | exact (flr_1 hx0 c_8).symm | exact (flr_2 hx0 c_8 (by simpa using c_90)).symm | exact (flr_3 hx0 c_8 (by simpa using c_90)).symm
    · skip
      refine lv_dload_n hx hb dJ23_floorOrCeil_93 rfl (lv_at hl 3 rfl) ?_
      refine g_dretP hx hb hr hlocks ?_ dJ23_floorOrCeil_94
      first | exact (flr_1 hx0 c_8).symm | exact (flr_2 hx0 c_8 (by simpa using c_90)).symm | exact (flr_3 hx0 c_8 (by simpa using c_90)).symm
  · skip
    refine lv_dload_n hx hb dJ23_floorOrCeil_11 rfl (lv_at hl 1 rfl) ?_
    refine lv_dconst0 hx hb dJ23_floorOrCeil_12 ?_
    refine lv_dcmp hx hb dJ23_floorOrCeil_13 ?_
    refine g_topi (v := (cK x 0)) (cK_of hx0.1.1.num num0) ?_
    refine lv_if_ne (tgt := 21) hx hb dJ23_floorOrCeil_14 (by decide) (fun c_14 => ?_) (fun c_14 => absurd c_14 (hx0.c1))
    refine lv_dload_n hx hb dJ23_floorOrCeil_21 rfl (lv_at hl 1 rfl) ?_
    refine lv_dconst0 hx hb dJ23_floorOrCeil_22 ?_
    refine lv_dcmp hx hb dJ23_floorOrCeil_23 ?_
    refine g_topi (v := (cK x 0)) (cK_of hx0.1.1.num num0) ?_
    refine lv_if_ge (tgt := 31) hx hb dJ23_floorOrCeil_24 (by decide) (fun c_24 => ?_) (fun c_24 => absurd (hx0.c2) c_24)
    refine lv_dload hx hb dJ23_floorOrCeil_31 (lv_at hl 3 rfl) ?_
    refine g_dretP hx hb hr hlocks ?_ dJ23_floorOrCeil_33
    first | exact (flr_1 hx0 c_8).symm | exact (flr_2 hx0 c_8 (by simpa using c_90)).symm | exact (flr_3 hx0 c_8 (by simpa using c_90)).symm
set_option maxHeartbeats 1000000 in
theorem m_floorS (l : Launch) (z : State) (H0 : Heap) (x : UInt64)  (hx0 : flo x) (hg : gZ z "java/lang/StrictMath" "$assertionsDisabled" "Z" (.int 1) gno H0) : Met l yJ23_floor (ws_ yJ23_floor cJ23_floor 2 (some .double)) { frames := 3, cells := 0, slots := 0, locals := 78 } (gPc z H0 [.double x]) (gPd H0 (fun r => r = flr x)) 0 0 gno := by
  refine g_start (by decide +kernel) (Nat.le_of_ble_eq_true rfl) ?_
  intro p e s m below meth c ls hx hb hr hlocks hml hown hname hts hwm hl
  have hown : s.vm.findClass "java/lang/StrictMath" = some m.cls := hown
  have hal : z.vm.Alike s.vm := hwm.alike
  have hCF : CallFix p m c cJ23_floor 2 s [.double x].toArray lw_all "java/lang/StrictMath" := ⟨hx, hb, hml, hown, hts⟩
  have hl : lv_has ls 2 [(0, .double x)] := hl
  refine lv_dload_n hx hb dJ23_floor_0 rfl (lv_at hl 0 rfl) ?_
  refine lv_ldc2d (v := 13830554455654793216) hx hb hown (hts _ q880) dJ23_floor_1 ?_
  refine lv_dconst0 hx hb dJ23_floor_4 ?_
  refine lv_ldc2d (v := 13830554455654793216) hx hb hown (hts _ q880) dJ23_floor_5 ?_
  refine gcS4_dP hCF hwm hl.1 (m_floorOrCeil l z H0 x hx0 hg ) (lw_S q881 q882 q84 q883) yd_J23_floorOrCeil ⟨Nat.le_of_ble_eq_true rfl, Nat.le_of_ble_eq_true rfl⟩ ⟨Nat.le_of_ble_eq_true rfl, Nat.le_of_ble_eq_true rfl⟩ (Nat.le_of_ble_eq_true rfl) dJ23_floor_8 (fun r_1 hp => ?_)
  subst hp
  refine g_dretP hx hb hr hlocks ?_ dJ23_floor_11
  rfl
set_option maxHeartbeats 1000000 in
theorem m_isInfinite (l : Launch) (z : State) (H0 : Heap) (x : UInt64)  (hx0 : dNum x) : Met l yJ9_isInfinite (ws_ yJ9_isInfinite cJ9_isInfinite 2 (some .boolean)) { frames := 2, cells := 0, slots := 0, locals := 61 } (gPc z H0 [.double x]) (gPi H0 (fun r => r = gb (decide (dP x = 9218868437227405312)))) 0 0 gno := by
  refine g_start (by decide +kernel) (Nat.le_of_ble_eq_true rfl) ?_
  intro p e s m below meth c ls hx hb hr hlocks hml hown hname hts hwm hl
  have hown : s.vm.findClass "java/lang/Double" = some m.cls := hown
  have hal : z.vm.Alike s.vm := hwm.alike
  have hCF : CallFix p m c cJ9_isInfinite 2 s [.double x].toArray lw_all "java/lang/Double" := ⟨hx, hb, hml, hown, hts⟩
  have hl : lv_has ls 2 [(0, .double x)] := hl
  refine lv_dload_n hx hb dJ9_isInfinite_0 rfl (lv_at hl 0 rfl) ?_
  refine gcS1_dP hCF hwm hl.1 (m_abs l z H0 x hx0 ) (lw_S q2011 q2012 q72 q2013) yd_J12_abs ⟨Nat.le_of_ble_eq_true rfl, Nat.le_of_ble_eq_true rfl⟩ ⟨Nat.le_of_ble_eq_true rfl, Nat.le_of_ble_eq_true rfl⟩ (Nat.le_of_ble_eq_true rfl) dJ9_isInfinite_1 (fun r_1 hp => ?_)
  subst hp
  refine lv_ldc2d (v := 9218868437227405311) hx hb hown (hts _ q2015) dJ9_isInfinite_4 ?_
  refine lv_dcmp hx hb dJ9_isInfinite_7 ?_
  refine g_topi (v := (cK (dA x) 9218868437227405311)) (cK_of (dA_num hx0) numMax) ?_
  refine lv_if_le (tgt := 15) hx hb dJ9_isInfinite_8 (by decide) (fun c_8 => ?_) (fun c_8 => ?_)
  · skip
    refine lv_iconst (v := 0) hx hb dJ9_isInfinite_15 (by decide) ?_
    refine g_zretP hx hb hr hlocks (rfl) ?_ dJ9_isInfinite_16
    have e : dK 9218868437227405311 = 9218868437227405311 := by decide
    rw [cK_le, dA_K, e] at c_8
    unfold dNum at hx0
    first | (rw [decide_eq_false (by omega)]; rfl) | (rw [decide_eq_true (by omega)]; rfl)
  · skip
    refine lv_iconst (v := 1) hx hb dJ9_isInfinite_11 (by decide) ?_
    refine lv_goto (tgt := 16) hx hb dJ9_isInfinite_12 (by decide) ?_
    refine g_zretP hx hb hr hlocks (rfl) ?_ dJ9_isInfinite_16
    have e : dK 9218868437227405311 = 9218868437227405311 := by decide
    rw [cK_le, dA_K, e] at c_8
    unfold dNum at hx0
    first | (rw [decide_eq_false (by omega)]; rfl) | (rw [decide_eq_true (by omega)]; rfl)
