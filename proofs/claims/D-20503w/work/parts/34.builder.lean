/-! ## walks (written by tools) -/
set_option maxRecDepth 100000
def dkwJ6_isLatin1_0 : List UInt8 := [178, 0, 18, 153, 0, 14, 42, 180, 0, 22, 154, 0, 7, 4, 167, 0, 4, 3, 172]
abbrev dktJ6_isLatin1_0 : List UInt8 := dkwJ6_isLatin1_0 ++ []
theorem dksJ6_isLatin1_0 : cJ6_isLatin1.data.toList.drop 0 = dktJ6_isLatin1_0 := by decide +kernel
theorem dJ6_isLatin1_0 : decode cJ6_isLatin1 0 = .ok (.getstatic 18, 3) := dk_178 0 18 (dk_at dksJ6_isLatin1_0 0 rfl rfl)
theorem dJ6_isLatin1_3 : decode cJ6_isLatin1 3 = .ok (.ifCond .eq 14, 3) := dk_153 0 14 (dk_at dksJ6_isLatin1_0 3 rfl rfl)
theorem dJ6_isLatin1_6 : decode cJ6_isLatin1 6 = .ok (.aload_n 0, 1) := dk_42 (dk_at dksJ6_isLatin1_0 6 rfl rfl)
theorem dJ6_isLatin1_7 : decode cJ6_isLatin1 7 = .ok (.getfield 22, 3) := dk_180 0 22 (dk_at dksJ6_isLatin1_0 7 rfl rfl)
theorem dJ6_isLatin1_10 : decode cJ6_isLatin1 10 = .ok (.ifCond .ne 7, 3) := dk_154 0 7 (dk_at dksJ6_isLatin1_0 10 rfl rfl)
theorem dJ6_isLatin1_13 : decode cJ6_isLatin1 13 = .ok (.iconst 1, 1) := dk_4 (dk_at dksJ6_isLatin1_0 13 rfl rfl)
theorem dJ6_isLatin1_14 : decode cJ6_isLatin1 14 = .ok (.goto 4, 3) := dk_167 0 4 (dk_at dksJ6_isLatin1_0 14 rfl rfl)
theorem dJ6_isLatin1_17 : decode cJ6_isLatin1 17 = .ok (.iconst 0, 1) := dk_3 (dk_at dksJ6_isLatin1_0 17 rfl rfl)
theorem dJ6_isLatin1_18 : decode cJ6_isLatin1 18 = .ok (.ireturn, 1) := dk_172 (dk_at dksJ6_isLatin1_0 18 rfl rfl)
theorem dJ6_length_0 : decode cJ6_length 0 = .ok (.aload_n 0, 1) := by decide +kernel
theorem dJ6_length_1 : decode cJ6_length 1 = .ok (.getfield 79, 3) := by decide +kernel
theorem dJ6_length_4 : decode cJ6_length 4 = .ok (.ireturn, 1) := by decide +kernel
theorem dJ7_length_0 : decode cJ7_length 0 = .ok (.aload_n 0, 1) := by decide +kernel
theorem dJ7_length_1 : decode cJ7_length 1 = .ok (.invokespecial 343, 3) := by decide +kernel
theorem dJ7_length_4 : decode cJ7_length 4 = .ok (.ireturn, 1) := by decide +kernel
theorem dJ6_getValue_0 : decode cJ6_getValue 0 = .ok (.aload_n 0, 1) := by decide +kernel
theorem dJ6_getValue_1 : decode cJ6_getValue 1 = .ok (.getfield 15, 3) := by decide +kernel
theorem dJ6_getValue_4 : decode cJ6_getValue 4 = .ok (.areturn, 1) := by decide +kernel
def dkwJ11_newLength_1 : List UInt8 := [184, 0, 201, 172]
abbrev dktJ11_newLength_1 : List UInt8 := dkwJ11_newLength_1 ++ []
def dkwJ11_newLength_0 : List UInt8 := [26, 27, 28, 184, 0, 194, 96, 62, 3, 29, 162, 0, 11, 29, 18, 200, 163, 0, 5, 29, 172, 26, 27]
abbrev dktJ11_newLength_0 : List UInt8 := dkwJ11_newLength_0 ++ dktJ11_newLength_1
theorem dksJ11_newLength_0 : cJ11_newLength.data.toList.drop 0 = dktJ11_newLength_0 := by decide +kernel
theorem dksJ11_newLength_1 : cJ11_newLength.data.toList.drop 23 = dktJ11_newLength_1 := dk_seg dksJ11_newLength_0 23 rfl rfl
theorem dJ11_newLength_0 : decode cJ11_newLength 0 = .ok (.iload_n 0, 1) := dk_26 (dk_at dksJ11_newLength_0 0 rfl rfl)
theorem dJ11_newLength_1 : decode cJ11_newLength 1 = .ok (.iload_n 1, 1) := dk_27 (dk_at dksJ11_newLength_0 1 rfl rfl)
theorem dJ11_newLength_2 : decode cJ11_newLength 2 = .ok (.iload_n 2, 1) := dk_28 (dk_at dksJ11_newLength_0 2 rfl rfl)
theorem dJ11_newLength_3 : decode cJ11_newLength 3 = .ok (.invokestatic 194, 3) := dk_184 0 194 (dk_at dksJ11_newLength_0 3 rfl rfl)
theorem dJ11_newLength_6 : decode cJ11_newLength 6 = .ok (.iadd, 1) := dk_96 (dk_at dksJ11_newLength_0 6 rfl rfl)
theorem dJ11_newLength_7 : decode cJ11_newLength 7 = .ok (.istore_n 3, 1) := dk_62 (dk_at dksJ11_newLength_0 7 rfl rfl)
theorem dJ11_newLength_8 : decode cJ11_newLength 8 = .ok (.iconst 0, 1) := dk_3 (dk_at dksJ11_newLength_0 8 rfl rfl)
theorem dJ11_newLength_9 : decode cJ11_newLength 9 = .ok (.iload_n 3, 1) := dk_29 (dk_at dksJ11_newLength_0 9 rfl rfl)
theorem dJ11_newLength_10 : decode cJ11_newLength 10 = .ok (.if_icmp .ge 11, 3) := dk_162 0 11 (dk_at dksJ11_newLength_0 10 rfl rfl)
theorem dJ11_newLength_13 : decode cJ11_newLength 13 = .ok (.iload_n 3, 1) := dk_29 (dk_at dksJ11_newLength_0 13 rfl rfl)
theorem dJ11_newLength_14 : decode cJ11_newLength 14 = .ok (.ldc 200, 2) := dk_18 200 (dk_at dksJ11_newLength_0 14 rfl rfl)
theorem dJ11_newLength_16 : decode cJ11_newLength 16 = .ok (.if_icmp .gt 5, 3) := dk_163 0 5 (dk_at dksJ11_newLength_0 16 rfl rfl)
theorem dJ11_newLength_19 : decode cJ11_newLength 19 = .ok (.iload_n 3, 1) := dk_29 (dk_at dksJ11_newLength_0 19 rfl rfl)
theorem dJ11_newLength_20 : decode cJ11_newLength 20 = .ok (.ireturn, 1) := dk_172 (dk_at dksJ11_newLength_0 20 rfl rfl)
theorem dJ11_newLength_21 : decode cJ11_newLength 21 = .ok (.iload_n 0, 1) := dk_26 (dk_at dksJ11_newLength_0 21 rfl rfl)
theorem dJ11_newLength_22 : decode cJ11_newLength 22 = .ok (.iload_n 1, 1) := dk_27 (dk_at dksJ11_newLength_0 22 rfl rfl)
theorem dJ11_newLength_23 : decode cJ11_newLength 23 = .ok (.invokestatic 201, 3) := dk_184 0 201 (dk_at dksJ11_newLength_1 0 rfl rfl)
theorem dJ11_newLength_26 : decode cJ11_newLength 26 = .ok (.ireturn, 1) := dk_172 (dk_at dksJ11_newLength_1 3 rfl rfl)
def dkwJ6_newCapacity_2 : List UInt8 := [183, 0, 124, 191, 21, 5, 42, 180, 0, 22, 122, 172]
abbrev dktJ6_newCapacity_2 : List UInt8 := dkwJ6_newCapacity_2 ++ []
def dkwJ6_newCapacity_1 : List UInt8 := [180, 0, 22, 120, 96, 184, 0, 114, 54, 5, 21, 5, 18, 39, 160, 0, 13, 187, 0, 120, 89, 18, 122]
abbrev dktJ6_newCapacity_1 : List UInt8 := dkwJ6_newCapacity_1 ++ dktJ6_newCapacity_2
def dkwJ6_newCapacity_0 : List UInt8 := [42, 180, 0, 15, 190, 61, 27, 42, 180, 0, 22, 120, 62, 29, 28, 100, 54, 4, 28, 21, 4, 28, 5, 42]
abbrev dktJ6_newCapacity_0 : List UInt8 := dkwJ6_newCapacity_0 ++ dktJ6_newCapacity_1
theorem dksJ6_newCapacity_0 : cJ6_newCapacity.data.toList.drop 0 = dktJ6_newCapacity_0 := by decide +kernel
theorem dksJ6_newCapacity_1 : cJ6_newCapacity.data.toList.drop 24 = dktJ6_newCapacity_1 := dk_seg dksJ6_newCapacity_0 24 rfl rfl
theorem dksJ6_newCapacity_2 : cJ6_newCapacity.data.toList.drop 47 = dktJ6_newCapacity_2 := dk_seg dksJ6_newCapacity_1 23 rfl rfl
theorem dJ6_newCapacity_0 : decode cJ6_newCapacity 0 = .ok (.aload_n 0, 1) := dk_42 (dk_at dksJ6_newCapacity_0 0 rfl rfl)
theorem dJ6_newCapacity_1 : decode cJ6_newCapacity 1 = .ok (.getfield 15, 3) := dk_180 0 15 (dk_at dksJ6_newCapacity_0 1 rfl rfl)
theorem dJ6_newCapacity_4 : decode cJ6_newCapacity 4 = .ok (.arraylength, 1) := dk_190 (dk_at dksJ6_newCapacity_0 4 rfl rfl)
theorem dJ6_newCapacity_5 : decode cJ6_newCapacity 5 = .ok (.istore_n 2, 1) := dk_61 (dk_at dksJ6_newCapacity_0 5 rfl rfl)
theorem dJ6_newCapacity_6 : decode cJ6_newCapacity 6 = .ok (.iload_n 1, 1) := dk_27 (dk_at dksJ6_newCapacity_0 6 rfl rfl)
theorem dJ6_newCapacity_7 : decode cJ6_newCapacity 7 = .ok (.aload_n 0, 1) := dk_42 (dk_at dksJ6_newCapacity_0 7 rfl rfl)
theorem dJ6_newCapacity_8 : decode cJ6_newCapacity 8 = .ok (.getfield 22, 3) := dk_180 0 22 (dk_at dksJ6_newCapacity_0 8 rfl rfl)
theorem dJ6_newCapacity_11 : decode cJ6_newCapacity 11 = .ok (.ishl, 1) := dk_120 (dk_at dksJ6_newCapacity_0 11 rfl rfl)
theorem dJ6_newCapacity_12 : decode cJ6_newCapacity 12 = .ok (.istore_n 3, 1) := dk_62 (dk_at dksJ6_newCapacity_0 12 rfl rfl)
theorem dJ6_newCapacity_13 : decode cJ6_newCapacity 13 = .ok (.iload_n 3, 1) := dk_29 (dk_at dksJ6_newCapacity_0 13 rfl rfl)
theorem dJ6_newCapacity_14 : decode cJ6_newCapacity 14 = .ok (.iload_n 2, 1) := dk_28 (dk_at dksJ6_newCapacity_0 14 rfl rfl)
theorem dJ6_newCapacity_15 : decode cJ6_newCapacity 15 = .ok (.isub, 1) := dk_100 (dk_at dksJ6_newCapacity_0 15 rfl rfl)
theorem dJ6_newCapacity_16 : decode cJ6_newCapacity 16 = .ok (.istore 4, 2) := dk_54 4 (dk_at dksJ6_newCapacity_0 16 rfl rfl)
theorem dJ6_newCapacity_18 : decode cJ6_newCapacity 18 = .ok (.iload_n 2, 1) := dk_28 (dk_at dksJ6_newCapacity_0 18 rfl rfl)
theorem dJ6_newCapacity_19 : decode cJ6_newCapacity 19 = .ok (.iload 4, 2) := dk_21 4 (dk_at dksJ6_newCapacity_0 19 rfl rfl)
theorem dJ6_newCapacity_21 : decode cJ6_newCapacity 21 = .ok (.iload_n 2, 1) := dk_28 (dk_at dksJ6_newCapacity_0 21 rfl rfl)
theorem dJ6_newCapacity_22 : decode cJ6_newCapacity 22 = .ok (.iconst 2, 1) := dk_5 (dk_at dksJ6_newCapacity_0 22 rfl rfl)
theorem dJ6_newCapacity_23 : decode cJ6_newCapacity 23 = .ok (.aload_n 0, 1) := dk_42 (dk_at dksJ6_newCapacity_0 23 rfl rfl)
theorem dJ6_newCapacity_24 : decode cJ6_newCapacity 24 = .ok (.getfield 22, 3) := dk_180 0 22 (dk_at dksJ6_newCapacity_1 0 rfl rfl)
theorem dJ6_newCapacity_27 : decode cJ6_newCapacity 27 = .ok (.ishl, 1) := dk_120 (dk_at dksJ6_newCapacity_1 3 rfl rfl)
theorem dJ6_newCapacity_28 : decode cJ6_newCapacity 28 = .ok (.iadd, 1) := dk_96 (dk_at dksJ6_newCapacity_1 4 rfl rfl)
theorem dJ6_newCapacity_29 : decode cJ6_newCapacity 29 = .ok (.invokestatic 114, 3) := dk_184 0 114 (dk_at dksJ6_newCapacity_1 5 rfl rfl)
theorem dJ6_newCapacity_32 : decode cJ6_newCapacity 32 = .ok (.istore 5, 2) := dk_54 5 (dk_at dksJ6_newCapacity_1 8 rfl rfl)
theorem dJ6_newCapacity_34 : decode cJ6_newCapacity 34 = .ok (.iload 5, 2) := dk_21 5 (dk_at dksJ6_newCapacity_1 10 rfl rfl)
theorem dJ6_newCapacity_36 : decode cJ6_newCapacity 36 = .ok (.ldc 39, 2) := dk_18 39 (dk_at dksJ6_newCapacity_1 12 rfl rfl)
theorem dJ6_newCapacity_38 : decode cJ6_newCapacity 38 = .ok (.if_icmp .ne 13, 3) := dk_160 0 13 (dk_at dksJ6_newCapacity_1 14 rfl rfl)
theorem dJ6_newCapacity_41 : decode cJ6_newCapacity 41 = .ok (.new 120, 3) := dk_187 0 120 (dk_at dksJ6_newCapacity_1 17 rfl rfl)
theorem dJ6_newCapacity_44 : decode cJ6_newCapacity 44 = .ok (.dup, 1) := dk_89 (dk_at dksJ6_newCapacity_1 20 rfl rfl)
theorem dJ6_newCapacity_45 : decode cJ6_newCapacity 45 = .ok (.ldc 122, 2) := dk_18 122 (dk_at dksJ6_newCapacity_1 21 rfl rfl)
theorem dJ6_newCapacity_47 : decode cJ6_newCapacity 47 = .ok (.invokespecial 124, 3) := dk_183 0 124 (dk_at dksJ6_newCapacity_2 0 rfl rfl)
theorem dJ6_newCapacity_50 : decode cJ6_newCapacity 50 = .ok (.athrow, 1) := dk_191 (dk_at dksJ6_newCapacity_2 3 rfl rfl)
theorem dJ6_newCapacity_51 : decode cJ6_newCapacity 51 = .ok (.iload 5, 2) := dk_21 5 (dk_at dksJ6_newCapacity_2 4 rfl rfl)
theorem dJ6_newCapacity_53 : decode cJ6_newCapacity 53 = .ok (.aload_n 0, 1) := dk_42 (dk_at dksJ6_newCapacity_2 6 rfl rfl)
theorem dJ6_newCapacity_54 : decode cJ6_newCapacity 54 = .ok (.getfield 22, 3) := dk_180 0 22 (dk_at dksJ6_newCapacity_2 7 rfl rfl)
theorem dJ6_newCapacity_57 : decode cJ6_newCapacity 57 = .ok (.ishr, 1) := dk_122 (dk_at dksJ6_newCapacity_2 10 rfl rfl)
theorem dJ6_newCapacity_58 : decode cJ6_newCapacity 58 = .ok (.ireturn, 1) := dk_172 (dk_at dksJ6_newCapacity_2 11 rfl rfl)
def dkwJ6_ensureCapacityInternal_1 : List UInt8 := [182, 0, 104, 42, 180, 0, 22, 120, 184, 0, 108, 181, 0, 15, 177]
abbrev dktJ6_ensureCapacityInternal_1 : List UInt8 := dkwJ6_ensureCapacityInternal_1 ++ []
def dkwJ6_ensureCapacityInternal_0 : List UInt8 := [42, 180, 0, 15, 190, 42, 180, 0, 22, 122, 61, 27, 28, 100, 158, 0, 24, 42, 42, 180, 0, 15, 42, 27]
abbrev dktJ6_ensureCapacityInternal_0 : List UInt8 := dkwJ6_ensureCapacityInternal_0 ++ dktJ6_ensureCapacityInternal_1
theorem dksJ6_ensureCapacityInternal_0 : cJ6_ensureCapacityInternal.data.toList.drop 0 = dktJ6_ensureCapacityInternal_0 := by decide +kernel
theorem dksJ6_ensureCapacityInternal_1 : cJ6_ensureCapacityInternal.data.toList.drop 24 = dktJ6_ensureCapacityInternal_1 := dk_seg dksJ6_ensureCapacityInternal_0 24 rfl rfl
theorem dJ6_ensureCapacityInternal_0 : decode cJ6_ensureCapacityInternal 0 = .ok (.aload_n 0, 1) := dk_42 (dk_at dksJ6_ensureCapacityInternal_0 0 rfl rfl)
theorem dJ6_ensureCapacityInternal_1 : decode cJ6_ensureCapacityInternal 1 = .ok (.getfield 15, 3) := dk_180 0 15 (dk_at dksJ6_ensureCapacityInternal_0 1 rfl rfl)
theorem dJ6_ensureCapacityInternal_4 : decode cJ6_ensureCapacityInternal 4 = .ok (.arraylength, 1) := dk_190 (dk_at dksJ6_ensureCapacityInternal_0 4 rfl rfl)
theorem dJ6_ensureCapacityInternal_5 : decode cJ6_ensureCapacityInternal 5 = .ok (.aload_n 0, 1) := dk_42 (dk_at dksJ6_ensureCapacityInternal_0 5 rfl rfl)
theorem dJ6_ensureCapacityInternal_6 : decode cJ6_ensureCapacityInternal 6 = .ok (.getfield 22, 3) := dk_180 0 22 (dk_at dksJ6_ensureCapacityInternal_0 6 rfl rfl)
theorem dJ6_ensureCapacityInternal_9 : decode cJ6_ensureCapacityInternal 9 = .ok (.ishr, 1) := dk_122 (dk_at dksJ6_ensureCapacityInternal_0 9 rfl rfl)
theorem dJ6_ensureCapacityInternal_10 : decode cJ6_ensureCapacityInternal 10 = .ok (.istore_n 2, 1) := dk_61 (dk_at dksJ6_ensureCapacityInternal_0 10 rfl rfl)
theorem dJ6_ensureCapacityInternal_11 : decode cJ6_ensureCapacityInternal 11 = .ok (.iload_n 1, 1) := dk_27 (dk_at dksJ6_ensureCapacityInternal_0 11 rfl rfl)
theorem dJ6_ensureCapacityInternal_12 : decode cJ6_ensureCapacityInternal 12 = .ok (.iload_n 2, 1) := dk_28 (dk_at dksJ6_ensureCapacityInternal_0 12 rfl rfl)
theorem dJ6_ensureCapacityInternal_13 : decode cJ6_ensureCapacityInternal 13 = .ok (.isub, 1) := dk_100 (dk_at dksJ6_ensureCapacityInternal_0 13 rfl rfl)
theorem dJ6_ensureCapacityInternal_14 : decode cJ6_ensureCapacityInternal 14 = .ok (.ifCond .le 24, 3) := dk_158 0 24 (dk_at dksJ6_ensureCapacityInternal_0 14 rfl rfl)
theorem dJ6_ensureCapacityInternal_17 : decode cJ6_ensureCapacityInternal 17 = .ok (.aload_n 0, 1) := dk_42 (dk_at dksJ6_ensureCapacityInternal_0 17 rfl rfl)
theorem dJ6_ensureCapacityInternal_18 : decode cJ6_ensureCapacityInternal 18 = .ok (.aload_n 0, 1) := dk_42 (dk_at dksJ6_ensureCapacityInternal_0 18 rfl rfl)
theorem dJ6_ensureCapacityInternal_19 : decode cJ6_ensureCapacityInternal 19 = .ok (.getfield 15, 3) := dk_180 0 15 (dk_at dksJ6_ensureCapacityInternal_0 19 rfl rfl)
theorem dJ6_ensureCapacityInternal_22 : decode cJ6_ensureCapacityInternal 22 = .ok (.aload_n 0, 1) := dk_42 (dk_at dksJ6_ensureCapacityInternal_0 22 rfl rfl)
theorem dJ6_ensureCapacityInternal_23 : decode cJ6_ensureCapacityInternal 23 = .ok (.iload_n 1, 1) := dk_27 (dk_at dksJ6_ensureCapacityInternal_0 23 rfl rfl)
theorem dJ6_ensureCapacityInternal_24 : decode cJ6_ensureCapacityInternal 24 = .ok (.invokevirtual 104, 3) := dk_182 0 104 (dk_at dksJ6_ensureCapacityInternal_1 0 rfl rfl)
theorem dJ6_ensureCapacityInternal_27 : decode cJ6_ensureCapacityInternal 27 = .ok (.aload_n 0, 1) := dk_42 (dk_at dksJ6_ensureCapacityInternal_1 3 rfl rfl)
theorem dJ6_ensureCapacityInternal_28 : decode cJ6_ensureCapacityInternal 28 = .ok (.getfield 22, 3) := dk_180 0 22 (dk_at dksJ6_ensureCapacityInternal_1 4 rfl rfl)
theorem dJ6_ensureCapacityInternal_31 : decode cJ6_ensureCapacityInternal 31 = .ok (.ishl, 1) := dk_120 (dk_at dksJ6_ensureCapacityInternal_1 7 rfl rfl)
theorem dJ6_ensureCapacityInternal_32 : decode cJ6_ensureCapacityInternal 32 = .ok (.invokestatic 108, 3) := dk_184 0 108 (dk_at dksJ6_ensureCapacityInternal_1 8 rfl rfl)
theorem dJ6_ensureCapacityInternal_35 : decode cJ6_ensureCapacityInternal 35 = .ok (.putfield 15, 3) := dk_181 0 15 (dk_at dksJ6_ensureCapacityInternal_1 11 rfl rfl)
theorem dJ6_ensureCapacityInternal_38 : decode cJ6_ensureCapacityInternal 38 = .ok (.return_, 1) := dk_177 (dk_at dksJ6_ensureCapacityInternal_1 14 rfl rfl)
def dkwJ6_inflateIfNeededFor_0 : List UInt8 := [178, 0, 18, 153, 0, 18, 42, 180, 0, 22, 43, 182, 0, 40, 159, 0, 7, 42, 182, 0, 195, 177]
abbrev dktJ6_inflateIfNeededFor_0 : List UInt8 := dkwJ6_inflateIfNeededFor_0 ++ []
theorem dksJ6_inflateIfNeededFor_0 : cJ6_inflateIfNeededFor.data.toList.drop 0 = dktJ6_inflateIfNeededFor_0 := by decide +kernel
theorem dJ6_inflateIfNeededFor_0 : decode cJ6_inflateIfNeededFor 0 = .ok (.getstatic 18, 3) := dk_178 0 18 (dk_at dksJ6_inflateIfNeededFor_0 0 rfl rfl)
theorem dJ6_inflateIfNeededFor_3 : decode cJ6_inflateIfNeededFor 3 = .ok (.ifCond .eq 18, 3) := dk_153 0 18 (dk_at dksJ6_inflateIfNeededFor_0 3 rfl rfl)
theorem dJ6_inflateIfNeededFor_6 : decode cJ6_inflateIfNeededFor 6 = .ok (.aload_n 0, 1) := dk_42 (dk_at dksJ6_inflateIfNeededFor_0 6 rfl rfl)
theorem dJ6_inflateIfNeededFor_7 : decode cJ6_inflateIfNeededFor 7 = .ok (.getfield 22, 3) := dk_180 0 22 (dk_at dksJ6_inflateIfNeededFor_0 7 rfl rfl)
theorem dJ6_inflateIfNeededFor_10 : decode cJ6_inflateIfNeededFor 10 = .ok (.aload_n 1, 1) := dk_43 (dk_at dksJ6_inflateIfNeededFor_0 10 rfl rfl)
theorem dJ6_inflateIfNeededFor_11 : decode cJ6_inflateIfNeededFor 11 = .ok (.invokevirtual 40, 3) := dk_182 0 40 (dk_at dksJ6_inflateIfNeededFor_0 11 rfl rfl)
theorem dJ6_inflateIfNeededFor_14 : decode cJ6_inflateIfNeededFor 14 = .ok (.if_icmp .eq 7, 3) := dk_159 0 7 (dk_at dksJ6_inflateIfNeededFor_0 14 rfl rfl)
theorem dJ6_inflateIfNeededFor_17 : decode cJ6_inflateIfNeededFor 17 = .ok (.aload_n 0, 1) := dk_42 (dk_at dksJ6_inflateIfNeededFor_0 17 rfl rfl)
theorem dJ6_inflateIfNeededFor_18 : decode cJ6_inflateIfNeededFor 18 = .ok (.invokevirtual 195, 3) := dk_182 0 195 (dk_at dksJ6_inflateIfNeededFor_0 18 rfl rfl)
theorem dJ6_inflateIfNeededFor_21 : decode cJ6_inflateIfNeededFor 21 = .ok (.return_, 1) := dk_177 (dk_at dksJ6_inflateIfNeededFor_0 21 rfl rfl)
def dkwJ5_getBytes_1 : List UInt8 := [184, 0, 212, 167, 0, 18, 42, 180, 0, 9, 3, 43, 28, 42, 180, 0, 9, 190, 184, 0, 106, 177]
abbrev dktJ5_getBytes_1 : List UInt8 := dkwJ5_getBytes_1 ++ []
def dkwJ5_getBytes_0 : List UInt8 := [42, 182, 1, 79, 29, 160, 0, 23, 42, 180, 0, 9, 3, 43, 28, 29, 120, 42, 180, 0, 9, 190]
abbrev dktJ5_getBytes_0 : List UInt8 := dkwJ5_getBytes_0 ++ dktJ5_getBytes_1
theorem dksJ5_getBytes_0 : cJ5_getBytes.data.toList.drop 0 = dktJ5_getBytes_0 := by decide +kernel
theorem dksJ5_getBytes_1 : cJ5_getBytes.data.toList.drop 22 = dktJ5_getBytes_1 := dk_seg dksJ5_getBytes_0 22 rfl rfl
theorem dJ5_getBytes_0 : decode cJ5_getBytes 0 = .ok (.aload_n 0, 1) := dk_42 (dk_at dksJ5_getBytes_0 0 rfl rfl)
theorem dJ5_getBytes_1 : decode cJ5_getBytes 1 = .ok (.invokevirtual 335, 3) := dk_182 1 79 (dk_at dksJ5_getBytes_0 1 rfl rfl)
theorem dJ5_getBytes_4 : decode cJ5_getBytes 4 = .ok (.iload_n 3, 1) := dk_29 (dk_at dksJ5_getBytes_0 4 rfl rfl)
theorem dJ5_getBytes_5 : decode cJ5_getBytes 5 = .ok (.if_icmp .ne 23, 3) := dk_160 0 23 (dk_at dksJ5_getBytes_0 5 rfl rfl)
theorem dJ5_getBytes_8 : decode cJ5_getBytes 8 = .ok (.aload_n 0, 1) := dk_42 (dk_at dksJ5_getBytes_0 8 rfl rfl)
theorem dJ5_getBytes_9 : decode cJ5_getBytes 9 = .ok (.getfield 9, 3) := dk_180 0 9 (dk_at dksJ5_getBytes_0 9 rfl rfl)
theorem dJ5_getBytes_12 : decode cJ5_getBytes 12 = .ok (.iconst 0, 1) := dk_3 (dk_at dksJ5_getBytes_0 12 rfl rfl)
theorem dJ5_getBytes_13 : decode cJ5_getBytes 13 = .ok (.aload_n 1, 1) := dk_43 (dk_at dksJ5_getBytes_0 13 rfl rfl)
theorem dJ5_getBytes_14 : decode cJ5_getBytes 14 = .ok (.iload_n 2, 1) := dk_28 (dk_at dksJ5_getBytes_0 14 rfl rfl)
theorem dJ5_getBytes_15 : decode cJ5_getBytes 15 = .ok (.iload_n 3, 1) := dk_29 (dk_at dksJ5_getBytes_0 15 rfl rfl)
theorem dJ5_getBytes_16 : decode cJ5_getBytes 16 = .ok (.ishl, 1) := dk_120 (dk_at dksJ5_getBytes_0 16 rfl rfl)
theorem dJ5_getBytes_17 : decode cJ5_getBytes 17 = .ok (.aload_n 0, 1) := dk_42 (dk_at dksJ5_getBytes_0 17 rfl rfl)
theorem dJ5_getBytes_18 : decode cJ5_getBytes 18 = .ok (.getfield 9, 3) := dk_180 0 9 (dk_at dksJ5_getBytes_0 18 rfl rfl)
theorem dJ5_getBytes_21 : decode cJ5_getBytes 21 = .ok (.arraylength, 1) := dk_190 (dk_at dksJ5_getBytes_0 21 rfl rfl)
theorem dJ5_getBytes_22 : decode cJ5_getBytes 22 = .ok (.invokestatic 212, 3) := dk_184 0 212 (dk_at dksJ5_getBytes_1 0 rfl rfl)
theorem dJ5_getBytes_25 : decode cJ5_getBytes 25 = .ok (.goto 18, 3) := dk_167 0 18 (dk_at dksJ5_getBytes_1 3 rfl rfl)
theorem dJ5_getBytes_28 : decode cJ5_getBytes 28 = .ok (.aload_n 0, 1) := dk_42 (dk_at dksJ5_getBytes_1 6 rfl rfl)
theorem dJ5_getBytes_29 : decode cJ5_getBytes 29 = .ok (.getfield 9, 3) := dk_180 0 9 (dk_at dksJ5_getBytes_1 7 rfl rfl)
theorem dJ5_getBytes_32 : decode cJ5_getBytes 32 = .ok (.iconst 0, 1) := dk_3 (dk_at dksJ5_getBytes_1 10 rfl rfl)
theorem dJ5_getBytes_33 : decode cJ5_getBytes 33 = .ok (.aload_n 1, 1) := dk_43 (dk_at dksJ5_getBytes_1 11 rfl rfl)
theorem dJ5_getBytes_34 : decode cJ5_getBytes 34 = .ok (.iload_n 2, 1) := dk_28 (dk_at dksJ5_getBytes_1 12 rfl rfl)
theorem dJ5_getBytes_35 : decode cJ5_getBytes 35 = .ok (.aload_n 0, 1) := dk_42 (dk_at dksJ5_getBytes_1 13 rfl rfl)
theorem dJ5_getBytes_36 : decode cJ5_getBytes 36 = .ok (.getfield 9, 3) := dk_180 0 9 (dk_at dksJ5_getBytes_1 14 rfl rfl)
theorem dJ5_getBytes_39 : decode cJ5_getBytes 39 = .ok (.arraylength, 1) := dk_190 (dk_at dksJ5_getBytes_1 17 rfl rfl)
theorem dJ5_getBytes_40 : decode cJ5_getBytes 40 = .ok (.invokestatic 106, 3) := dk_184 0 106 (dk_at dksJ5_getBytes_1 18 rfl rfl)
theorem dJ5_getBytes_43 : decode cJ5_getBytes 43 = .ok (.return_, 1) := dk_177 (dk_at dksJ5_getBytes_1 21 rfl rfl)
def dkwJ6_putStringAt_0 : List UInt8 := [42, 44, 182, 1, 141, 44, 42, 180, 0, 15, 27, 42, 180, 0, 22, 182, 1, 143, 177]
abbrev dktJ6_putStringAt_0 : List UInt8 := dkwJ6_putStringAt_0 ++ []
theorem dksJ6_putStringAt_0 : cJ6_putStringAt.data.toList.drop 0 = dktJ6_putStringAt_0 := by decide +kernel
theorem dJ6_putStringAt_0 : decode cJ6_putStringAt 0 = .ok (.aload_n 0, 1) := dk_42 (dk_at dksJ6_putStringAt_0 0 rfl rfl)
theorem dJ6_putStringAt_1 : decode cJ6_putStringAt 1 = .ok (.aload_n 2, 1) := dk_44 (dk_at dksJ6_putStringAt_0 1 rfl rfl)
theorem dJ6_putStringAt_2 : decode cJ6_putStringAt 2 = .ok (.invokevirtual 397, 3) := dk_182 1 141 (dk_at dksJ6_putStringAt_0 2 rfl rfl)
theorem dJ6_putStringAt_5 : decode cJ6_putStringAt 5 = .ok (.aload_n 2, 1) := dk_44 (dk_at dksJ6_putStringAt_0 5 rfl rfl)
theorem dJ6_putStringAt_6 : decode cJ6_putStringAt 6 = .ok (.aload_n 0, 1) := dk_42 (dk_at dksJ6_putStringAt_0 6 rfl rfl)
theorem dJ6_putStringAt_7 : decode cJ6_putStringAt 7 = .ok (.getfield 15, 3) := dk_180 0 15 (dk_at dksJ6_putStringAt_0 7 rfl rfl)
theorem dJ6_putStringAt_10 : decode cJ6_putStringAt 10 = .ok (.iload_n 1, 1) := dk_27 (dk_at dksJ6_putStringAt_0 10 rfl rfl)
theorem dJ6_putStringAt_11 : decode cJ6_putStringAt 11 = .ok (.aload_n 0, 1) := dk_42 (dk_at dksJ6_putStringAt_0 11 rfl rfl)
theorem dJ6_putStringAt_12 : decode cJ6_putStringAt 12 = .ok (.getfield 22, 3) := dk_180 0 22 (dk_at dksJ6_putStringAt_0 12 rfl rfl)
theorem dJ6_putStringAt_15 : decode cJ6_putStringAt 15 = .ok (.invokevirtual 399, 3) := dk_182 1 143 (dk_at dksJ6_putStringAt_0 15 rfl rfl)
theorem dJ6_putStringAt_18 : decode cJ6_putStringAt 18 = .ok (.return_, 1) := dk_177 (dk_at dksJ6_putStringAt_0 18 rfl rfl)
def dkwJ6_append_1 : List UInt8 := [42, 42, 180, 0, 79, 43, 182, 0, 208, 42, 89, 180, 0, 79, 28, 96, 181, 0, 79, 42, 176]
abbrev dktJ6_append_1 : List UInt8 := dkwJ6_append_1 ++ []
def dkwJ6_append_0 : List UInt8 := [43, 199, 0, 8, 42, 182, 0, 204, 176, 43, 182, 0, 32, 61, 42, 42, 180, 0, 79, 28, 96, 182, 0, 100]
abbrev dktJ6_append_0 : List UInt8 := dkwJ6_append_0 ++ dktJ6_append_1
theorem dksJ6_append_0 : cJ6_append.data.toList.drop 0 = dktJ6_append_0 := by decide +kernel
theorem dksJ6_append_1 : cJ6_append.data.toList.drop 24 = dktJ6_append_1 := dk_seg dksJ6_append_0 24 rfl rfl
theorem dJ6_append_0 : decode cJ6_append 0 = .ok (.aload_n 1, 1) := dk_43 (dk_at dksJ6_append_0 0 rfl rfl)
theorem dJ6_append_1 : decode cJ6_append 1 = .ok (.ifnonnull 8, 3) := dk_199 0 8 (dk_at dksJ6_append_0 1 rfl rfl)
theorem dJ6_append_4 : decode cJ6_append 4 = .ok (.aload_n 0, 1) := dk_42 (dk_at dksJ6_append_0 4 rfl rfl)
theorem dJ6_append_5 : decode cJ6_append 5 = .ok (.invokevirtual 204, 3) := dk_182 0 204 (dk_at dksJ6_append_0 5 rfl rfl)
theorem dJ6_append_8 : decode cJ6_append 8 = .ok (.areturn, 1) := dk_176 (dk_at dksJ6_append_0 8 rfl rfl)
theorem dJ6_append_9 : decode cJ6_append 9 = .ok (.aload_n 1, 1) := dk_43 (dk_at dksJ6_append_0 9 rfl rfl)
theorem dJ6_append_10 : decode cJ6_append 10 = .ok (.invokevirtual 32, 3) := dk_182 0 32 (dk_at dksJ6_append_0 10 rfl rfl)
theorem dJ6_append_13 : decode cJ6_append 13 = .ok (.istore_n 2, 1) := dk_61 (dk_at dksJ6_append_0 13 rfl rfl)
theorem dJ6_append_14 : decode cJ6_append 14 = .ok (.aload_n 0, 1) := dk_42 (dk_at dksJ6_append_0 14 rfl rfl)
theorem dJ6_append_15 : decode cJ6_append 15 = .ok (.aload_n 0, 1) := dk_42 (dk_at dksJ6_append_0 15 rfl rfl)
theorem dJ6_append_16 : decode cJ6_append 16 = .ok (.getfield 79, 3) := dk_180 0 79 (dk_at dksJ6_append_0 16 rfl rfl)
theorem dJ6_append_19 : decode cJ6_append 19 = .ok (.iload_n 2, 1) := dk_28 (dk_at dksJ6_append_0 19 rfl rfl)
theorem dJ6_append_20 : decode cJ6_append 20 = .ok (.iadd, 1) := dk_96 (dk_at dksJ6_append_0 20 rfl rfl)
theorem dJ6_append_21 : decode cJ6_append 21 = .ok (.invokevirtual 100, 3) := dk_182 0 100 (dk_at dksJ6_append_0 21 rfl rfl)
theorem dJ6_append_24 : decode cJ6_append 24 = .ok (.aload_n 0, 1) := dk_42 (dk_at dksJ6_append_1 0 rfl rfl)
theorem dJ6_append_25 : decode cJ6_append 25 = .ok (.aload_n 0, 1) := dk_42 (dk_at dksJ6_append_1 1 rfl rfl)
theorem dJ6_append_26 : decode cJ6_append 26 = .ok (.getfield 79, 3) := dk_180 0 79 (dk_at dksJ6_append_1 2 rfl rfl)
theorem dJ6_append_29 : decode cJ6_append 29 = .ok (.aload_n 1, 1) := dk_43 (dk_at dksJ6_append_1 5 rfl rfl)
theorem dJ6_append_30 : decode cJ6_append 30 = .ok (.invokevirtual 208, 3) := dk_182 0 208 (dk_at dksJ6_append_1 6 rfl rfl)
theorem dJ6_append_33 : decode cJ6_append 33 = .ok (.aload_n 0, 1) := dk_42 (dk_at dksJ6_append_1 9 rfl rfl)
theorem dJ6_append_34 : decode cJ6_append 34 = .ok (.dup, 1) := dk_89 (dk_at dksJ6_append_1 10 rfl rfl)
theorem dJ6_append_35 : decode cJ6_append 35 = .ok (.getfield 79, 3) := dk_180 0 79 (dk_at dksJ6_append_1 11 rfl rfl)
theorem dJ6_append_38 : decode cJ6_append 38 = .ok (.iload_n 2, 1) := dk_28 (dk_at dksJ6_append_1 14 rfl rfl)
theorem dJ6_append_39 : decode cJ6_append 39 = .ok (.iadd, 1) := dk_96 (dk_at dksJ6_append_1 15 rfl rfl)
theorem dJ6_append_40 : decode cJ6_append 40 = .ok (.putfield 79, 3) := dk_181 0 79 (dk_at dksJ6_append_1 16 rfl rfl)
theorem dJ6_append_43 : decode cJ6_append 43 = .ok (.aload_n 0, 1) := dk_42 (dk_at dksJ6_append_1 19 rfl rfl)
theorem dJ6_append_44 : decode cJ6_append 44 = .ok (.areturn, 1) := dk_176 (dk_at dksJ6_append_1 20 rfl rfl)
def dkwJ7_append_2_0 : List UInt8 := [42, 43, 183, 0, 29, 87, 42, 176]
abbrev dktJ7_append_2_0 : List UInt8 := dkwJ7_append_2_0 ++ []
theorem dksJ7_append_2_0 : cJ7_append_2.data.toList.drop 0 = dktJ7_append_2_0 := by decide +kernel
theorem dJ7_append_2_0 : decode cJ7_append_2 0 = .ok (.aload_n 0, 1) := dk_42 (dk_at dksJ7_append_2_0 0 rfl rfl)
theorem dJ7_append_2_1 : decode cJ7_append_2 1 = .ok (.aload_n 1, 1) := dk_43 (dk_at dksJ7_append_2_0 1 rfl rfl)
theorem dJ7_append_2_2 : decode cJ7_append_2 2 = .ok (.invokespecial 29, 3) := dk_183 0 29 (dk_at dksJ7_append_2_0 2 rfl rfl)
theorem dJ7_append_2_5 : decode cJ7_append_2 5 = .ok (.pop, 1) := dk_87 (dk_at dksJ7_append_2_0 5 rfl rfl)
theorem dJ7_append_2_6 : decode cJ7_append_2 6 = .ok (.aload_n 0, 1) := dk_42 (dk_at dksJ7_append_2_0 6 rfl rfl)
theorem dJ7_append_2_7 : decode cJ7_append_2 7 = .ok (.areturn, 1) := dk_176 (dk_at dksJ7_append_2_0 7 rfl rfl)
def dkwJ7_append_0 : List UInt8 := [42, 43, 182, 0, 23, 176]
abbrev dktJ7_append_0 : List UInt8 := dkwJ7_append_0 ++ []
theorem dksJ7_append_0 : cJ7_append.data.toList.drop 0 = dktJ7_append_0 := by decide +kernel
theorem dJ7_append_0 : decode cJ7_append 0 = .ok (.aload_n 0, 1) := dk_42 (dk_at dksJ7_append_0 0 rfl rfl)
theorem dJ7_append_1 : decode cJ7_append 1 = .ok (.aload_n 1, 1) := dk_43 (dk_at dksJ7_append_0 1 rfl rfl)
theorem dJ7_append_2 : decode cJ7_append 2 = .ok (.invokevirtual 23, 3) := dk_182 0 23 (dk_at dksJ7_append_0 2 rfl rfl)
theorem dJ7_append_5 : decode cJ7_append 5 = .ok (.areturn, 1) := dk_176 (dk_at dksJ7_append_0 5 rfl rfl)
def dkwJ6_append_2_2 : List UInt8 := [180, 0, 15, 184, 1, 6, 87, 42, 21, 4, 181, 0, 79, 42, 176]
abbrev dktJ6_append_2_2 : List UInt8 := dkwJ6_append_2_2 ++ []
def dkwJ6_append_2_1 : List UInt8 := [153, 0, 17, 31, 21, 4, 42, 180, 0, 15, 184, 1, 3, 87, 167, 0, 15, 31, 29, 21, 4, 42]
abbrev dktJ6_append_2_1 : List UInt8 := dkwJ6_append_2_1 ++ dktJ6_append_2_2
def dkwJ6_append_2_0 : List UInt8 := [42, 180, 0, 79, 62, 29, 31, 184, 0, 254, 96, 54, 4, 42, 21, 4, 182, 0, 100, 42, 182, 0, 83]
abbrev dktJ6_append_2_0 : List UInt8 := dkwJ6_append_2_0 ++ dktJ6_append_2_1
theorem dksJ6_append_2_0 : cJ6_append_2.data.toList.drop 0 = dktJ6_append_2_0 := by decide +kernel
theorem dksJ6_append_2_1 : cJ6_append_2.data.toList.drop 23 = dktJ6_append_2_1 := dk_seg dksJ6_append_2_0 23 rfl rfl
theorem dksJ6_append_2_2 : cJ6_append_2.data.toList.drop 45 = dktJ6_append_2_2 := dk_seg dksJ6_append_2_1 22 rfl rfl
theorem dJ6_append_2_0 : decode cJ6_append_2 0 = .ok (.aload_n 0, 1) := dk_42 (dk_at dksJ6_append_2_0 0 rfl rfl)
theorem dJ6_append_2_1 : decode cJ6_append_2 1 = .ok (.getfield 79, 3) := dk_180 0 79 (dk_at dksJ6_append_2_0 1 rfl rfl)
theorem dJ6_append_2_4 : decode cJ6_append_2 4 = .ok (.istore_n 3, 1) := dk_62 (dk_at dksJ6_append_2_0 4 rfl rfl)
theorem dJ6_append_2_5 : decode cJ6_append_2 5 = .ok (.iload_n 3, 1) := dk_29 (dk_at dksJ6_append_2_0 5 rfl rfl)
theorem dJ6_append_2_6 : decode cJ6_append_2 6 = .ok (.lload_n 1, 1) := dk_31 (dk_at dksJ6_append_2_0 6 rfl rfl)
theorem dJ6_append_2_7 : decode cJ6_append_2 7 = .ok (.invokestatic 254, 3) := dk_184 0 254 (dk_at dksJ6_append_2_0 7 rfl rfl)
theorem dJ6_append_2_10 : decode cJ6_append_2 10 = .ok (.iadd, 1) := dk_96 (dk_at dksJ6_append_2_0 10 rfl rfl)
theorem dJ6_append_2_11 : decode cJ6_append_2 11 = .ok (.istore 4, 2) := dk_54 4 (dk_at dksJ6_append_2_0 11 rfl rfl)
theorem dJ6_append_2_13 : decode cJ6_append_2 13 = .ok (.aload_n 0, 1) := dk_42 (dk_at dksJ6_append_2_0 13 rfl rfl)
theorem dJ6_append_2_14 : decode cJ6_append_2 14 = .ok (.iload 4, 2) := dk_21 4 (dk_at dksJ6_append_2_0 14 rfl rfl)
theorem dJ6_append_2_16 : decode cJ6_append_2 16 = .ok (.invokevirtual 100, 3) := dk_182 0 100 (dk_at dksJ6_append_2_0 16 rfl rfl)
theorem dJ6_append_2_19 : decode cJ6_append_2 19 = .ok (.aload_n 0, 1) := dk_42 (dk_at dksJ6_append_2_0 19 rfl rfl)
theorem dJ6_append_2_20 : decode cJ6_append_2 20 = .ok (.invokevirtual 83, 3) := dk_182 0 83 (dk_at dksJ6_append_2_0 20 rfl rfl)
theorem dJ6_append_2_23 : decode cJ6_append_2 23 = .ok (.ifCond .eq 17, 3) := dk_153 0 17 (dk_at dksJ6_append_2_1 0 rfl rfl)
theorem dJ6_append_2_26 : decode cJ6_append_2 26 = .ok (.lload_n 1, 1) := dk_31 (dk_at dksJ6_append_2_1 3 rfl rfl)
theorem dJ6_append_2_27 : decode cJ6_append_2 27 = .ok (.iload 4, 2) := dk_21 4 (dk_at dksJ6_append_2_1 4 rfl rfl)
theorem dJ6_append_2_29 : decode cJ6_append_2 29 = .ok (.aload_n 0, 1) := dk_42 (dk_at dksJ6_append_2_1 6 rfl rfl)
theorem dJ6_append_2_30 : decode cJ6_append_2 30 = .ok (.getfield 15, 3) := dk_180 0 15 (dk_at dksJ6_append_2_1 7 rfl rfl)
theorem dJ6_append_2_33 : decode cJ6_append_2 33 = .ok (.invokestatic 259, 3) := dk_184 1 3 (dk_at dksJ6_append_2_1 10 rfl rfl)
theorem dJ6_append_2_36 : decode cJ6_append_2 36 = .ok (.pop, 1) := dk_87 (dk_at dksJ6_append_2_1 13 rfl rfl)
theorem dJ6_append_2_37 : decode cJ6_append_2 37 = .ok (.goto 15, 3) := dk_167 0 15 (dk_at dksJ6_append_2_1 14 rfl rfl)
theorem dJ6_append_2_40 : decode cJ6_append_2 40 = .ok (.lload_n 1, 1) := dk_31 (dk_at dksJ6_append_2_1 17 rfl rfl)
theorem dJ6_append_2_41 : decode cJ6_append_2 41 = .ok (.iload_n 3, 1) := dk_29 (dk_at dksJ6_append_2_1 18 rfl rfl)
theorem dJ6_append_2_42 : decode cJ6_append_2 42 = .ok (.iload 4, 2) := dk_21 4 (dk_at dksJ6_append_2_1 19 rfl rfl)
theorem dJ6_append_2_44 : decode cJ6_append_2 44 = .ok (.aload_n 0, 1) := dk_42 (dk_at dksJ6_append_2_1 21 rfl rfl)
theorem dJ6_append_2_45 : decode cJ6_append_2 45 = .ok (.getfield 15, 3) := dk_180 0 15 (dk_at dksJ6_append_2_2 0 rfl rfl)
theorem dJ6_append_2_48 : decode cJ6_append_2 48 = .ok (.invokestatic 262, 3) := dk_184 1 6 (dk_at dksJ6_append_2_2 3 rfl rfl)
theorem dJ6_append_2_51 : decode cJ6_append_2 51 = .ok (.pop, 1) := dk_87 (dk_at dksJ6_append_2_2 6 rfl rfl)
theorem dJ6_append_2_52 : decode cJ6_append_2 52 = .ok (.aload_n 0, 1) := dk_42 (dk_at dksJ6_append_2_2 7 rfl rfl)
theorem dJ6_append_2_53 : decode cJ6_append_2 53 = .ok (.iload 4, 2) := dk_21 4 (dk_at dksJ6_append_2_2 8 rfl rfl)
theorem dJ6_append_2_55 : decode cJ6_append_2 55 = .ok (.putfield 79, 3) := dk_181 0 79 (dk_at dksJ6_append_2_2 10 rfl rfl)
theorem dJ6_append_2_58 : decode cJ6_append_2 58 = .ok (.aload_n 0, 1) := dk_42 (dk_at dksJ6_append_2_2 13 rfl rfl)
theorem dJ6_append_2_59 : decode cJ6_append_2 59 = .ok (.areturn, 1) := dk_176 (dk_at dksJ6_append_2_2 14 rfl rfl)
def dkwJ7_append_3_0 : List UInt8 := [42, 31, 183, 0, 56, 87, 42, 176]
abbrev dktJ7_append_3_0 : List UInt8 := dkwJ7_append_3_0 ++ []
theorem dksJ7_append_3_0 : cJ7_append_3.data.toList.drop 0 = dktJ7_append_3_0 := by decide +kernel
theorem dJ7_append_3_0 : decode cJ7_append_3 0 = .ok (.aload_n 0, 1) := dk_42 (dk_at dksJ7_append_3_0 0 rfl rfl)
theorem dJ7_append_3_1 : decode cJ7_append_3 1 = .ok (.lload_n 1, 1) := dk_31 (dk_at dksJ7_append_3_0 1 rfl rfl)
theorem dJ7_append_3_2 : decode cJ7_append_3 2 = .ok (.invokespecial 56, 3) := dk_183 0 56 (dk_at dksJ7_append_3_0 2 rfl rfl)
theorem dJ7_append_3_5 : decode cJ7_append_3 5 = .ok (.pop, 1) := dk_87 (dk_at dksJ7_append_3_0 5 rfl rfl)
theorem dJ7_append_3_6 : decode cJ7_append_3 6 = .ok (.aload_n 0, 1) := dk_42 (dk_at dksJ7_append_3_0 6 rfl rfl)
theorem dJ7_append_3_7 : decode cJ7_append_3 7 = .ok (.areturn, 1) := dk_176 (dk_at dksJ7_append_3_0 7 rfl rfl)
def dkwJ6_append_3_2 : List UInt8 := [42, 29, 181, 0, 79, 42, 176]
abbrev dktJ6_append_3_2 : List UInt8 := dkwJ6_append_3_2 ++ []
def dkwJ6_append_3_1 : List UInt8 := [27, 29, 42, 180, 0, 15, 184, 0, 248, 87, 167, 0, 14, 27, 28, 29, 42, 180, 0, 15, 184, 0, 251, 87]
abbrev dktJ6_append_3_1 : List UInt8 := dkwJ6_append_3_1 ++ dktJ6_append_3_2
def dkwJ6_append_3_0 : List UInt8 := [42, 180, 0, 79, 61, 28, 27, 184, 0, 245, 96, 62, 42, 29, 182, 0, 100, 42, 182, 0, 83, 153, 0, 16]
abbrev dktJ6_append_3_0 : List UInt8 := dkwJ6_append_3_0 ++ dktJ6_append_3_1
theorem dksJ6_append_3_0 : cJ6_append_3.data.toList.drop 0 = dktJ6_append_3_0 := by decide +kernel
theorem dksJ6_append_3_1 : cJ6_append_3.data.toList.drop 24 = dktJ6_append_3_1 := dk_seg dksJ6_append_3_0 24 rfl rfl
theorem dksJ6_append_3_2 : cJ6_append_3.data.toList.drop 48 = dktJ6_append_3_2 := dk_seg dksJ6_append_3_1 24 rfl rfl
theorem dJ6_append_3_0 : decode cJ6_append_3 0 = .ok (.aload_n 0, 1) := dk_42 (dk_at dksJ6_append_3_0 0 rfl rfl)
theorem dJ6_append_3_1 : decode cJ6_append_3 1 = .ok (.getfield 79, 3) := dk_180 0 79 (dk_at dksJ6_append_3_0 1 rfl rfl)
theorem dJ6_append_3_4 : decode cJ6_append_3 4 = .ok (.istore_n 2, 1) := dk_61 (dk_at dksJ6_append_3_0 4 rfl rfl)
theorem dJ6_append_3_5 : decode cJ6_append_3 5 = .ok (.iload_n 2, 1) := dk_28 (dk_at dksJ6_append_3_0 5 rfl rfl)
theorem dJ6_append_3_6 : decode cJ6_append_3 6 = .ok (.iload_n 1, 1) := dk_27 (dk_at dksJ6_append_3_0 6 rfl rfl)
theorem dJ6_append_3_7 : decode cJ6_append_3 7 = .ok (.invokestatic 245, 3) := dk_184 0 245 (dk_at dksJ6_append_3_0 7 rfl rfl)
theorem dJ6_append_3_10 : decode cJ6_append_3 10 = .ok (.iadd, 1) := dk_96 (dk_at dksJ6_append_3_0 10 rfl rfl)
theorem dJ6_append_3_11 : decode cJ6_append_3 11 = .ok (.istore_n 3, 1) := dk_62 (dk_at dksJ6_append_3_0 11 rfl rfl)
theorem dJ6_append_3_12 : decode cJ6_append_3 12 = .ok (.aload_n 0, 1) := dk_42 (dk_at dksJ6_append_3_0 12 rfl rfl)
theorem dJ6_append_3_13 : decode cJ6_append_3 13 = .ok (.iload_n 3, 1) := dk_29 (dk_at dksJ6_append_3_0 13 rfl rfl)
theorem dJ6_append_3_14 : decode cJ6_append_3 14 = .ok (.invokevirtual 100, 3) := dk_182 0 100 (dk_at dksJ6_append_3_0 14 rfl rfl)
theorem dJ6_append_3_17 : decode cJ6_append_3 17 = .ok (.aload_n 0, 1) := dk_42 (dk_at dksJ6_append_3_0 17 rfl rfl)
theorem dJ6_append_3_18 : decode cJ6_append_3 18 = .ok (.invokevirtual 83, 3) := dk_182 0 83 (dk_at dksJ6_append_3_0 18 rfl rfl)
theorem dJ6_append_3_21 : decode cJ6_append_3 21 = .ok (.ifCond .eq 16, 3) := dk_153 0 16 (dk_at dksJ6_append_3_0 21 rfl rfl)
theorem dJ6_append_3_24 : decode cJ6_append_3 24 = .ok (.iload_n 1, 1) := dk_27 (dk_at dksJ6_append_3_1 0 rfl rfl)
theorem dJ6_append_3_25 : decode cJ6_append_3 25 = .ok (.iload_n 3, 1) := dk_29 (dk_at dksJ6_append_3_1 1 rfl rfl)
theorem dJ6_append_3_26 : decode cJ6_append_3 26 = .ok (.aload_n 0, 1) := dk_42 (dk_at dksJ6_append_3_1 2 rfl rfl)
theorem dJ6_append_3_27 : decode cJ6_append_3 27 = .ok (.getfield 15, 3) := dk_180 0 15 (dk_at dksJ6_append_3_1 3 rfl rfl)
theorem dJ6_append_3_30 : decode cJ6_append_3 30 = .ok (.invokestatic 248, 3) := dk_184 0 248 (dk_at dksJ6_append_3_1 6 rfl rfl)
theorem dJ6_append_3_33 : decode cJ6_append_3 33 = .ok (.pop, 1) := dk_87 (dk_at dksJ6_append_3_1 9 rfl rfl)
theorem dJ6_append_3_34 : decode cJ6_append_3 34 = .ok (.goto 14, 3) := dk_167 0 14 (dk_at dksJ6_append_3_1 10 rfl rfl)
theorem dJ6_append_3_37 : decode cJ6_append_3 37 = .ok (.iload_n 1, 1) := dk_27 (dk_at dksJ6_append_3_1 13 rfl rfl)
theorem dJ6_append_3_38 : decode cJ6_append_3 38 = .ok (.iload_n 2, 1) := dk_28 (dk_at dksJ6_append_3_1 14 rfl rfl)
theorem dJ6_append_3_39 : decode cJ6_append_3 39 = .ok (.iload_n 3, 1) := dk_29 (dk_at dksJ6_append_3_1 15 rfl rfl)
theorem dJ6_append_3_40 : decode cJ6_append_3 40 = .ok (.aload_n 0, 1) := dk_42 (dk_at dksJ6_append_3_1 16 rfl rfl)
theorem dJ6_append_3_41 : decode cJ6_append_3 41 = .ok (.getfield 15, 3) := dk_180 0 15 (dk_at dksJ6_append_3_1 17 rfl rfl)
theorem dJ6_append_3_44 : decode cJ6_append_3 44 = .ok (.invokestatic 251, 3) := dk_184 0 251 (dk_at dksJ6_append_3_1 20 rfl rfl)
theorem dJ6_append_3_47 : decode cJ6_append_3 47 = .ok (.pop, 1) := dk_87 (dk_at dksJ6_append_3_1 23 rfl rfl)
theorem dJ6_append_3_48 : decode cJ6_append_3 48 = .ok (.aload_n 0, 1) := dk_42 (dk_at dksJ6_append_3_2 0 rfl rfl)
theorem dJ6_append_3_49 : decode cJ6_append_3 49 = .ok (.iload_n 3, 1) := dk_29 (dk_at dksJ6_append_3_2 1 rfl rfl)
theorem dJ6_append_3_50 : decode cJ6_append_3 50 = .ok (.putfield 79, 3) := dk_181 0 79 (dk_at dksJ6_append_3_2 2 rfl rfl)
theorem dJ6_append_3_53 : decode cJ6_append_3 53 = .ok (.aload_n 0, 1) := dk_42 (dk_at dksJ6_append_3_2 5 rfl rfl)
theorem dJ6_append_3_54 : decode cJ6_append_3 54 = .ok (.areturn, 1) := dk_176 (dk_at dksJ6_append_3_2 6 rfl rfl)
def dkwJ7_append_4_0 : List UInt8 := [42, 27, 183, 0, 53, 87, 42, 176]
abbrev dktJ7_append_4_0 : List UInt8 := dkwJ7_append_4_0 ++ []
theorem dksJ7_append_4_0 : cJ7_append_4.data.toList.drop 0 = dktJ7_append_4_0 := by decide +kernel
theorem dJ7_append_4_0 : decode cJ7_append_4 0 = .ok (.aload_n 0, 1) := dk_42 (dk_at dksJ7_append_4_0 0 rfl rfl)
theorem dJ7_append_4_1 : decode cJ7_append_4 1 = .ok (.iload_n 1, 1) := dk_27 (dk_at dksJ7_append_4_0 1 rfl rfl)
theorem dJ7_append_4_2 : decode cJ7_append_4 2 = .ok (.invokespecial 53, 3) := dk_183 0 53 (dk_at dksJ7_append_4_0 2 rfl rfl)
theorem dJ7_append_4_5 : decode cJ7_append_4 5 = .ok (.pop, 1) := dk_87 (dk_at dksJ7_append_4_0 5 rfl rfl)
theorem dJ7_append_4_6 : decode cJ7_append_4 6 = .ok (.aload_n 0, 1) := dk_42 (dk_at dksJ7_append_4_0 6 rfl rfl)
theorem dJ7_append_4_7 : decode cJ7_append_4 7 = .ok (.areturn, 1) := dk_176 (dk_at dksJ7_append_4_0 7 rfl rfl)
def dkwJ6_append_4_3 : List UInt8 := [181, 0, 79, 27, 184, 0, 197, 42, 176]
abbrev dktJ6_append_4_3 : List UInt8 := dkwJ6_append_4_3 ++ []
def dkwJ6_append_4_2 : List UInt8 := [182, 0, 83, 153, 0, 7, 42, 182, 0, 195, 42, 180, 0, 15, 42, 89, 180, 0, 79, 90, 4, 96]
abbrev dktJ6_append_4_2 : List UInt8 := dkwJ6_append_4_2 ++ dktJ6_append_4_3
def dkwJ6_append_4_1 : List UInt8 := [42, 180, 0, 15, 42, 89, 180, 0, 79, 90, 4, 96, 181, 0, 79, 27, 145, 84, 167, 0, 33, 42]
abbrev dktJ6_append_4_1 : List UInt8 := dkwJ6_append_4_1 ++ dktJ6_append_4_2
def dkwJ6_append_4_0 : List UInt8 := [42, 42, 180, 0, 79, 4, 96, 182, 0, 100, 42, 182, 0, 83, 153, 0, 31, 27, 184, 0, 191, 153, 0, 24]
abbrev dktJ6_append_4_0 : List UInt8 := dkwJ6_append_4_0 ++ dktJ6_append_4_1
theorem dksJ6_append_4_0 : cJ6_append_4.data.toList.drop 0 = dktJ6_append_4_0 := by decide +kernel
theorem dksJ6_append_4_1 : cJ6_append_4.data.toList.drop 24 = dktJ6_append_4_1 := dk_seg dksJ6_append_4_0 24 rfl rfl
theorem dksJ6_append_4_2 : cJ6_append_4.data.toList.drop 46 = dktJ6_append_4_2 := dk_seg dksJ6_append_4_1 22 rfl rfl
theorem dksJ6_append_4_3 : cJ6_append_4.data.toList.drop 68 = dktJ6_append_4_3 := dk_seg dksJ6_append_4_2 22 rfl rfl
theorem dJ6_append_4_0 : decode cJ6_append_4 0 = .ok (.aload_n 0, 1) := dk_42 (dk_at dksJ6_append_4_0 0 rfl rfl)
theorem dJ6_append_4_1 : decode cJ6_append_4 1 = .ok (.aload_n 0, 1) := dk_42 (dk_at dksJ6_append_4_0 1 rfl rfl)
theorem dJ6_append_4_2 : decode cJ6_append_4 2 = .ok (.getfield 79, 3) := dk_180 0 79 (dk_at dksJ6_append_4_0 2 rfl rfl)
theorem dJ6_append_4_5 : decode cJ6_append_4 5 = .ok (.iconst 1, 1) := dk_4 (dk_at dksJ6_append_4_0 5 rfl rfl)
theorem dJ6_append_4_6 : decode cJ6_append_4 6 = .ok (.iadd, 1) := dk_96 (dk_at dksJ6_append_4_0 6 rfl rfl)
theorem dJ6_append_4_7 : decode cJ6_append_4 7 = .ok (.invokevirtual 100, 3) := dk_182 0 100 (dk_at dksJ6_append_4_0 7 rfl rfl)
theorem dJ6_append_4_10 : decode cJ6_append_4 10 = .ok (.aload_n 0, 1) := dk_42 (dk_at dksJ6_append_4_0 10 rfl rfl)
theorem dJ6_append_4_11 : decode cJ6_append_4 11 = .ok (.invokevirtual 83, 3) := dk_182 0 83 (dk_at dksJ6_append_4_0 11 rfl rfl)
theorem dJ6_append_4_14 : decode cJ6_append_4 14 = .ok (.ifCond .eq 31, 3) := dk_153 0 31 (dk_at dksJ6_append_4_0 14 rfl rfl)
theorem dJ6_append_4_17 : decode cJ6_append_4 17 = .ok (.iload_n 1, 1) := dk_27 (dk_at dksJ6_append_4_0 17 rfl rfl)
theorem dJ6_append_4_18 : decode cJ6_append_4 18 = .ok (.invokestatic 191, 3) := dk_184 0 191 (dk_at dksJ6_append_4_0 18 rfl rfl)
theorem dJ6_append_4_21 : decode cJ6_append_4 21 = .ok (.ifCond .eq 24, 3) := dk_153 0 24 (dk_at dksJ6_append_4_0 21 rfl rfl)
theorem dJ6_append_4_24 : decode cJ6_append_4 24 = .ok (.aload_n 0, 1) := dk_42 (dk_at dksJ6_append_4_1 0 rfl rfl)
theorem dJ6_append_4_25 : decode cJ6_append_4 25 = .ok (.getfield 15, 3) := dk_180 0 15 (dk_at dksJ6_append_4_1 1 rfl rfl)
theorem dJ6_append_4_28 : decode cJ6_append_4 28 = .ok (.aload_n 0, 1) := dk_42 (dk_at dksJ6_append_4_1 4 rfl rfl)
theorem dJ6_append_4_29 : decode cJ6_append_4 29 = .ok (.dup, 1) := dk_89 (dk_at dksJ6_append_4_1 5 rfl rfl)
theorem dJ6_append_4_30 : decode cJ6_append_4 30 = .ok (.getfield 79, 3) := dk_180 0 79 (dk_at dksJ6_append_4_1 6 rfl rfl)
theorem dJ6_append_4_33 : decode cJ6_append_4 33 = .ok (.dup_x1, 1) := dk_90 (dk_at dksJ6_append_4_1 9 rfl rfl)
theorem dJ6_append_4_34 : decode cJ6_append_4 34 = .ok (.iconst 1, 1) := dk_4 (dk_at dksJ6_append_4_1 10 rfl rfl)
theorem dJ6_append_4_35 : decode cJ6_append_4 35 = .ok (.iadd, 1) := dk_96 (dk_at dksJ6_append_4_1 11 rfl rfl)
theorem dJ6_append_4_36 : decode cJ6_append_4 36 = .ok (.putfield 79, 3) := dk_181 0 79 (dk_at dksJ6_append_4_1 12 rfl rfl)
theorem dJ6_append_4_39 : decode cJ6_append_4 39 = .ok (.iload_n 1, 1) := dk_27 (dk_at dksJ6_append_4_1 15 rfl rfl)
theorem dJ6_append_4_40 : decode cJ6_append_4 40 = .ok (.i2b, 1) := dk_145 (dk_at dksJ6_append_4_1 16 rfl rfl)
theorem dJ6_append_4_41 : decode cJ6_append_4 41 = .ok (.bastore, 1) := dk_84 (dk_at dksJ6_append_4_1 17 rfl rfl)
theorem dJ6_append_4_42 : decode cJ6_append_4 42 = .ok (.goto 33, 3) := dk_167 0 33 (dk_at dksJ6_append_4_1 18 rfl rfl)
theorem dJ6_append_4_45 : decode cJ6_append_4 45 = .ok (.aload_n 0, 1) := dk_42 (dk_at dksJ6_append_4_1 21 rfl rfl)
theorem dJ6_append_4_46 : decode cJ6_append_4 46 = .ok (.invokevirtual 83, 3) := dk_182 0 83 (dk_at dksJ6_append_4_2 0 rfl rfl)
theorem dJ6_append_4_49 : decode cJ6_append_4 49 = .ok (.ifCond .eq 7, 3) := dk_153 0 7 (dk_at dksJ6_append_4_2 3 rfl rfl)
theorem dJ6_append_4_52 : decode cJ6_append_4 52 = .ok (.aload_n 0, 1) := dk_42 (dk_at dksJ6_append_4_2 6 rfl rfl)
theorem dJ6_append_4_53 : decode cJ6_append_4 53 = .ok (.invokevirtual 195, 3) := dk_182 0 195 (dk_at dksJ6_append_4_2 7 rfl rfl)
theorem dJ6_append_4_56 : decode cJ6_append_4 56 = .ok (.aload_n 0, 1) := dk_42 (dk_at dksJ6_append_4_2 10 rfl rfl)
theorem dJ6_append_4_57 : decode cJ6_append_4 57 = .ok (.getfield 15, 3) := dk_180 0 15 (dk_at dksJ6_append_4_2 11 rfl rfl)
theorem dJ6_append_4_60 : decode cJ6_append_4 60 = .ok (.aload_n 0, 1) := dk_42 (dk_at dksJ6_append_4_2 14 rfl rfl)
theorem dJ6_append_4_61 : decode cJ6_append_4 61 = .ok (.dup, 1) := dk_89 (dk_at dksJ6_append_4_2 15 rfl rfl)
theorem dJ6_append_4_62 : decode cJ6_append_4 62 = .ok (.getfield 79, 3) := dk_180 0 79 (dk_at dksJ6_append_4_2 16 rfl rfl)
theorem dJ6_append_4_65 : decode cJ6_append_4 65 = .ok (.dup_x1, 1) := dk_90 (dk_at dksJ6_append_4_2 19 rfl rfl)
theorem dJ6_append_4_66 : decode cJ6_append_4 66 = .ok (.iconst 1, 1) := dk_4 (dk_at dksJ6_append_4_2 20 rfl rfl)
theorem dJ6_append_4_67 : decode cJ6_append_4 67 = .ok (.iadd, 1) := dk_96 (dk_at dksJ6_append_4_2 21 rfl rfl)
theorem dJ6_append_4_68 : decode cJ6_append_4 68 = .ok (.putfield 79, 3) := dk_181 0 79 (dk_at dksJ6_append_4_3 0 rfl rfl)
theorem dJ6_append_4_71 : decode cJ6_append_4 71 = .ok (.iload_n 1, 1) := dk_27 (dk_at dksJ6_append_4_3 3 rfl rfl)
theorem dJ6_append_4_72 : decode cJ6_append_4 72 = .ok (.invokestatic 197, 3) := dk_184 0 197 (dk_at dksJ6_append_4_3 4 rfl rfl)
theorem dJ6_append_4_75 : decode cJ6_append_4 75 = .ok (.aload_n 0, 1) := dk_42 (dk_at dksJ6_append_4_3 7 rfl rfl)
theorem dJ6_append_4_76 : decode cJ6_append_4 76 = .ok (.areturn, 1) := dk_176 (dk_at dksJ6_append_4_3 8 rfl rfl)
def dkwJ7_append_6_0 : List UInt8 := [42, 27, 183, 0, 50, 87, 42, 176]
abbrev dktJ7_append_6_0 : List UInt8 := dkwJ7_append_6_0 ++ []
theorem dksJ7_append_6_0 : cJ7_append_6.data.toList.drop 0 = dktJ7_append_6_0 := by decide +kernel
theorem dJ7_append_6_0 : decode cJ7_append_6 0 = .ok (.aload_n 0, 1) := dk_42 (dk_at dksJ7_append_6_0 0 rfl rfl)
theorem dJ7_append_6_1 : decode cJ7_append_6 1 = .ok (.iload_n 1, 1) := dk_27 (dk_at dksJ7_append_6_0 1 rfl rfl)
theorem dJ7_append_6_2 : decode cJ7_append_6 2 = .ok (.invokespecial 50, 3) := dk_183 0 50 (dk_at dksJ7_append_6_0 2 rfl rfl)
theorem dJ7_append_6_5 : decode cJ7_append_6 5 = .ok (.pop, 1) := dk_87 (dk_at dksJ7_append_6_0 5 rfl rfl)
theorem dJ7_append_6_6 : decode cJ7_append_6 6 = .ok (.aload_n 0, 1) := dk_42 (dk_at dksJ7_append_6_0 6 rfl rfl)
theorem dJ7_append_6_7 : decode cJ7_append_6 7 = .ok (.areturn, 1) := dk_176 (dk_at dksJ7_append_6_0 7 rfl rfl)
theorem yd_J11_newLength : yJ11_newLength.cls ≠ "java/lang/invoke/MethodHandle" ∧ yJ11_newLength.cls ≠ "java/lang/invoke/VarHandle" ∧ (parseMethodDescriptor yJ11_newLength.desc).map (fun d => d.parameters.length) = some 3 := by decide +kernel
theorem yd_J13_copyOf : yJ13_copyOf.cls ≠ "java/lang/invoke/MethodHandle" ∧ yJ13_copyOf.cls ≠ "java/lang/invoke/VarHandle" ∧ (parseMethodDescriptor yJ13_copyOf.desc).map (fun d => d.parameters.length) = some 2 := by decide +kernel
theorem yd_J15_canEncode_2 : yJ15_canEncode_2.cls ≠ "java/lang/invoke/MethodHandle" ∧ yJ15_canEncode_2.cls ≠ "java/lang/invoke/VarHandle" ∧ (parseMethodDescriptor yJ15_canEncode_2.desc).map (fun d => d.parameters.length) = some 1 := by decide +kernel
theorem yd_J16_getChars : yJ16_getChars.cls ≠ "java/lang/invoke/MethodHandle" ∧ yJ16_getChars.cls ≠ "java/lang/invoke/VarHandle" ∧ (parseMethodDescriptor yJ16_getChars.desc).map (fun d => d.parameters.length) = some 3 := by decide +kernel
theorem yd_J16_stringSize : yJ16_stringSize.cls ≠ "java/lang/invoke/MethodHandle" ∧ yJ16_stringSize.cls ≠ "java/lang/invoke/VarHandle" ∧ (parseMethodDescriptor yJ16_stringSize.desc).map (fun d => d.parameters.length) = some 1 := by decide +kernel
theorem yd_J17_getChars : yJ17_getChars.cls ≠ "java/lang/invoke/MethodHandle" ∧ yJ17_getChars.cls ≠ "java/lang/invoke/VarHandle" ∧ (parseMethodDescriptor yJ17_getChars.desc).map (fun d => d.parameters.length) = some 3 := by decide +kernel
theorem yd_J17_stringSize : yJ17_stringSize.cls ≠ "java/lang/invoke/MethodHandle" ∧ yJ17_stringSize.cls ≠ "java/lang/invoke/VarHandle" ∧ (parseMethodDescriptor yJ17_stringSize.desc).map (fun d => d.parameters.length) = some 1 := by decide +kernel
theorem ydv_J5_getBytes : yJ5_getBytes.cls = "java/lang/String" ∧ yJ5_getBytes.cls ≠ "java/lang/invoke/MethodHandle" ∧ yJ5_getBytes.cls ≠ "java/lang/invoke/VarHandle" ∧ (parseMethodDescriptor yJ5_getBytes.desc).map (fun d => d.parameters.length) = some 3 := by decide +kernel
theorem ydu_J6_append : yJ6_append.name ≠ "<init>" ∧ (parseMethodDescriptor yJ6_append.desc).map (fun d => d.parameters.length) = some 1 := by decide +kernel
theorem ydu_J6_append_2 : yJ6_append_2.name ≠ "<init>" ∧ (parseMethodDescriptor yJ6_append_2.desc).map (fun d => d.parameters.length) = some 1 := by decide +kernel
theorem ydu_J6_append_3 : yJ6_append_3.name ≠ "<init>" ∧ (parseMethodDescriptor yJ6_append_3.desc).map (fun d => d.parameters.length) = some 1 := by decide +kernel
theorem ydu_J6_append_4 : yJ6_append_4.name ≠ "<init>" ∧ (parseMethodDescriptor yJ6_append_4.desc).map (fun d => d.parameters.length) = some 1 := by decide +kernel
theorem ydu_J6_length : yJ6_length.name ≠ "<init>" ∧ (parseMethodDescriptor yJ6_length.desc).map (fun d => d.parameters.length) = some 0 := by decide +kernel
theorem ydv_J7_append_2 : yJ7_append_2.cls = "java/lang/StringBuilder" ∧ yJ7_append_2.cls ≠ "java/lang/invoke/MethodHandle" ∧ yJ7_append_2.cls ≠ "java/lang/invoke/VarHandle" ∧ (parseMethodDescriptor yJ7_append_2.desc).map (fun d => d.parameters.length) = some 1 := by decide +kernel
/-! ### StringBuilder -/
theorem gA.neO2 {z s : State} {w w2 : Bool} {ty : FieldType} {H : Heap} {b n a N n0 : Nat} {f : Nat → Value} {C : String} {T : u_T} {fs : List Value} {args : Array Value} (hal : z.vm.Alike s.vm) (h : gA z w ty H b n f) (h2 : gO z w2 C T N H a fs) (hi : (Cond.instantiable C n0).before args s = true) : a ≠ b := by
  intro e
  subst e
  obtain ⟨cell, q1, q2, -⟩ := h
  obtain ⟨cell2, r1, -, -, r4, -⟩ := h2
  obtain ⟨cC, kC, hfc, hk, hkind, -⟩ := Cond.instantiable_spec hi
  cases q1.symm.trans r1
  have r5 : s.vm.findClass C = some cell.cls := by rw [hal.findClass]; exact r4
  cases hfc.symm.trans r5
  obtain ⟨-, k2, hk2, comp, hkind2⟩ := State.isArrayOf_alike hal q2
  cases hk.symm.trans hk2
  rw [hkind] at hkind2
  cases hkind2
def ncap (c n : Nat) : Nat := c + max (n - c) (c + 2)
def gcap (c n : Nat) : Nat := if n ≤ c then c else ncap c n
def gcst (c n : Nat) : Nat := if n ≤ c then 0 else ncap c n
def gcel (c n : Nat) : Nat := if n ≤ c then 0 else 1
theorem gcap_ge (c n : Nat) : n ≤ gcap c n ∧ c ≤ gcap c n := by unfold gcap ncap; split <;> omega
/-- the builder at a, its bytes at b, cap of them, with the text T -/
def gB (z : State) (H : Heap) (a b cap : Nat) (T : List Nat) : Prop := ∃ (ml : Int32) (f : Nat → Int32), gO z true RJ7 TJ7 4 H a [.ref b, .int 0, .int ml, .int (nI T.length)] ∧ gI z true .byte H b cap f ∧ (∀ i, i < T.length → f i = nI (T.getD i 0)) ∧ fitB cap f ∧ T.length ≤ cap ∧ cap < 1000000 ∧ (∀ c ∈ T, c < 128)
theorem gB.lt {z : State} {H : Heap} {a b cap : Nat} {T : List Nat} (h : gB z H a b cap T) : a < H.size ∧ b < H.size := by
  obtain ⟨ml, f, hO, hB, -⟩ := h
  exact ⟨hO.lt, hB.lt⟩
theorem gB.ex {z : State} {H H1 : Heap} {a b cap : Nat} {T : List Nat} {A : Nat → Prop} (h : gB z H a b cap T) (h1 : gex A H H1) (ha : ¬ (A a ∨ A b)) : gB z H1 a b cap T := by
  obtain ⟨ml, f, hO, hB, r⟩ := h
  exact ⟨ml, f, hO.ex h1 (fun q => ha (Or.inl q)), hB.ex h1 (fun q => ha (Or.inr q)), r⟩
theorem gB.x {z : State} {H H1 : Heap} {a b cap : Nat} {T : List Nat} (h : gB z H a b cap T) (h1 : gx H H1) : gB z H1 a b cap T := by
  obtain ⟨ml, f, hO, hB, r⟩ := h
  exact ⟨ml, f, hO.x h1, hB.x h1, r⟩
theorem gB.ch {z : State} {H H1 : Heap} {a b cap c : Nat} {T : List Nat} (h : gB z H a b cap T) (h1 : gch c H H1) (ha : a ≠ c ∧ b ≠ c) : gB z H1 a b cap T := by
  obtain ⟨ml, f, hO, hB, r⟩ := h
  exact ⟨ml, f, hO.ch h1 ha.1, hB.ch h1 ha.2, r⟩
theorem gS.ex {z : State} {w : Bool} {H H1 : Heap} {a b : Nat} {T : List Nat} {A : Nat → Prop} (h : gS z w H a b T) (h1 : gex A H H1) (ha : ¬ (A a ∨ A b)) : gS z w H1 a b T := by
  obtain ⟨h2, h3, hO, hB, hT⟩ := h
  exact ⟨h2, h3, hO.ex h1 (fun q => ha (Or.inl q)), hB.ex h1 (fun q => ha (Or.inr q)), hT⟩
theorem gS.x {z : State} {w : Bool} {H H1 : Heap} {a b : Nat} {T : List Nat} (h : gS z w H a b T) (h1 : gx H H1) : gS z w H1 a b T := by
  obtain ⟨h2, h3, hO, hB, hT⟩ := h
  exact ⟨h2, h3, hO.x h1, hB.x h1, hT⟩
theorem gS.ch {z : State} {w : Bool} {H H1 : Heap} {a b c : Nat} {T : List Nat} (h : gS z w H a b T) (h1 : gch c H H1) (ha : a ≠ c ∧ b ≠ c) : gS z w H1 a b T := by
  obtain ⟨h2, h3, hO, hB, hT⟩ := h
  exact ⟨h2, h3, hO.ch h1 ha.1, hB.ch h1 ha.2, hT⟩
theorem gS.lt {z : State} {w : Bool} {H : Heap} {a b : Nat} {T : List Nat} (h : gS z w H a b T) : a < H.size ∧ b < H.size := by
  obtain ⟨h2, h3, hO, hB, -⟩ := h
  exact ⟨hO.lt, hB.lt⟩
theorem gS.tx {z : State} {w : Bool} {H : Heap} {a b : Nat} {T : List Nat} (h : gS z w H a b T) : tx T := by
  obtain ⟨h2, h3, hO, hB, hT⟩ := h
  exact hT
theorem getD_ap (S T : List Nat) (i : Nat) : (S ++ T).getD i 0 = if i < S.length then S.getD i 0 else T.getD (i - S.length) 0 := by
  split
  · rename_i q
    rw [List.getD_eq_getElem?_getD, List.getD_eq_getElem?_getD, List.getElem?_append_left q]
  · rename_i q
    rw [List.getD_eq_getElem?_getD, List.getD_eq_getElem?_getD, List.getElem?_append_right (by omega)]
theorem cpy_ovl (T : List Nat) (f : Nat → Int32) (p : Nat) : va_cpy (bof T) f 0 p T.length = ovl f p T := by
  funext j
  unfold va_cpy ovl bof
  split
  · rw [Nat.zero_add]
  · rfl
theorem fitB_ovl {n : Nat} {f : Nat → Int32} (h : fitB n f) (p : Nat) {T : List Nat} (hT : ∀ c ∈ T, c < 128) : fitB n (ovl f p T) := by
  intro i hi
  unfold ovl
  split
  · rename_i q
    apply fit_c
    rw [List.getD_eq_getElem?_getD, List.getElem?_eq_getElem (by omega)]
    exact hT _ (List.getElem_mem _)
  · exact h i hi
theorem ovl_app {f : Nat → Int32} {T T2 : List Nat} (h : ∀ i, i < T.length → f i = nI (T.getD i 0)) : ∀ i, i < (T ++ T2).length → ovl f T.length T2 i = nI ((T ++ T2).getD i 0) := by
  intro i hi
  rw [List.length_append] at hi
  unfold ovl
  split
  · rename_i q
    rw [getD_ap, if_neg (by omega)]
  · rename_i q
    rw [getD_ap, if_pos (by omega)]
    exact h i (by omega)
theorem fits0 : fits .byte (.int 0) = true := by decide
theorem app128 {T T2 : List Nat} (h : ∀ c ∈ T, c < 128) (h2 : ∀ c ∈ T2, c < 128) : ∀ c ∈ T ++ T2, c < 128 := by
  intro c hc
  rcases List.mem_append.mp hc with q | q
  · exact h c q
  · exact h2 c q
theorem upd_ovl1 (f : Nat → Int32) (p c : Nat) (hc : c < 128) : upd f p ((nI c).toInt8.toInt32) = ovl f p [c] := by
  rw [b8 c hc, ← ovl_put (f := f) (p := p + 1) (q := p) (T := []) (d := c) rfl rfl, ovl_nil]
theorem dg_c (n : Nat) : ∀ c ∈ dg n, c < 128 := by
  induction n using Nat.strongRecOn with
  | ind n ih =>
    intro c hc
    rcases Nat.lt_or_ge n 10 with h | h
    · rw [dg_lt h] at hc
      simp at hc
      omega
    · rw [dg_ge h] at hc
      rcases List.mem_append.mp hc with q | q
      · exact ih (n / 10) (by omega) c q
      · simp at q
        omega
theorem sdg_c (v : Int) : ∀ c ∈ sdg v, c < 128 := by
  intro c hc
  unfold sdg at hc
  rcases List.mem_append.mp hc with q | q
  · split at q
    · simp at q; omega
    · simp at q
  · exact dg_c _ c q
theorem nd_le19 {v : Int} (h1 : -9223372036854775808 ≤ v) (h2 : v < 9223372036854775808) : nd v.natAbs + mn v ≤ 20 := by
  have h := (nd_le v.natAbs 18).mpr (Nat.lt_of_le_of_lt (show v.natAbs ≤ 9223372036854775808 by omega) (by decide))
  have := mn_b v
  omega

set_option maxHeartbeats 1000000 in
theorem m_sbLatin (l : Launch) (z : State) (H0 : Heap) (a : Nat) (b : Nat) (ml ct : Int32) {A : Nat → Prop} (k : Nat → Nat) (fv : Nat → Value) (hO : gO z true RJ7 TJ7 4 H0 a [.ref b, .int 0, .int ml, .int ct]) (hs : sS z k fv A H0) : Met l yJ6_isLatin1 (ws_ yJ6_isLatin1 cJ6_isLatin1 1 (some .boolean)) { frames := 0, cells := 0, slots := 0, locals := 0 } (gPc z H0 [.ref a]) (gPi H0 (fun r => r = 1)) 0 0 gno := by
  refine g_start (by decide +kernel) (Nat.le_of_ble_eq_true rfl) ?_
  intro p e s m below meth c ls hx hb hr hlocks hml hown hname hts hwm hl
  have hown : s.vm.findClass "java/lang/AbstractStringBuilder" = some m.cls := hown
  have hal : z.vm.Alike s.vm := hwm.alike
  have hCF : CallFix p m c cJ6_isLatin1 1 s [.ref a].toArray lw_all "java/lang/AbstractStringBuilder" := ⟨hx, hb, hml, hown, hts⟩
  have hl : lv_has ls 1 [(0, .ref a)] := hl
  refine gw_getsP hx hb hal hs.1 hown (hts _ q294) (fun _ h9 => h9) dJ6_isLatin1_0 ?_
  refine lv_if_eq (tgt := 17) hx hb dJ6_isLatin1_3 (by decide) (fun c_3 => absurd c_3 (by decide)) (fun c_3 => ?_)
  refine lv_aload_n hx hb dJ6_isLatin1_6 rfl (lv_at hl 0 rfl) ?_
  refine gw_get (C := RJ7) (T := TJ7) (N := 4) (v := .int 0) hx hb hts in_J7 hown hal hO 1 (by decide) (hts _ q355) (fun _ h9 => h9) rfl dJ6_isLatin1_7 ?_
  refine lv_if_ne (tgt := 17) hx hb dJ6_isLatin1_10 (by decide) (fun c_10 => absurd (rfl) c_10) (fun c_10 => ?_)
  refine lv_iconst (v := 1) hx hb dJ6_isLatin1_13 (by decide) ?_
  refine lv_goto (tgt := 18) hx hb dJ6_isLatin1_14 (by decide) ?_
  refine g_zretP hx hb hr hlocks (rfl) ?_ dJ6_isLatin1_18
  rfl
set_option maxHeartbeats 1000000 in
theorem m_sbLen6 (l : Launch) (z : State) (H0 : Heap) (a : Nat) (b : Nat) (ml ct : Int32) (hO : gO z true RJ7 TJ7 4 H0 a [.ref b, .int 0, .int ml, .int ct]) : Met l yJ6_length (ws_ yJ6_length cJ6_length 1 (some .int)) { frames := 0, cells := 0, slots := 0, locals := 0 } (gPc z H0 [.ref a]) (gPi H0 (fun r => r = ct)) 0 0 gno := by
  refine g_start (by decide +kernel) (Nat.le_of_ble_eq_true rfl) ?_
  intro p e s m below meth c ls hx hb hr hlocks hml hown hname hts hwm hl
  have hown : s.vm.findClass "java/lang/AbstractStringBuilder" = some m.cls := hown
  have hal : z.vm.Alike s.vm := hwm.alike
  have hCF : CallFix p m c cJ6_length 1 s [.ref a].toArray lw_all "java/lang/AbstractStringBuilder" := ⟨hx, hb, hml, hown, hts⟩
  have hl : lv_has ls 1 [(0, .ref a)] := hl
  refine lv_aload_n hx hb dJ6_length_0 rfl (lv_at hl 0 rfl) ?_
  refine gw_get (C := RJ7) (T := TJ7) (N := 4) (v := .int ct) hx hb hts in_J7 hown hal hO 3 (by decide) (hts _ q358) (fun _ h9 => h9) rfl dJ6_length_1 ?_
  refine g_iretP hx hb hr hlocks ?_ dJ6_length_4
  rfl
set_option maxHeartbeats 1000000 in
theorem m_sbLen (l : Launch) (z : State) (H0 : Heap) (a : Nat) (b cap : Nat) (T : List Nat) (hg : gB z H0 a b cap T) : Met l yJ7_length (ws_ yJ7_length cJ7_length 1 (some .int)) { frames := 1, cells := 0, slots := 0, locals := 20 } (gPc z H0 [.ref a]) (gPi H0 (fun r => r = nI T.length)) 0 0 gno := by
  refine g_start (by decide +kernel) (Nat.le_of_ble_eq_true rfl) ?_
  intro p e s m below meth c ls hx hb hr hlocks hml hown hname hts hwm hl
  have hown : s.vm.findClass "java/lang/StringBuilder" = some m.cls := hown
  have hal : z.vm.Alike s.vm := hwm.alike
  have hCF : CallFix p m c cJ7_length 1 s [.ref a].toArray lw_all "java/lang/StringBuilder" := ⟨hx, hb, hml, hown, hts⟩
  have hl : lv_has ls 1 [(0, .ref a)] := hl
  obtain ⟨ml, f, hO, hB, hf, hF, hc, hc9, hT⟩ := hg
  refine lv_aload_n hx hb dJ7_length_0 rfl (lv_at hl 0 rfl) ?_
  refine gcSU0_iP hCF hwm hl.1 (m_sbLen6 l z H0 a b ml (nI T.length) hO ) (lw_app (lw_list5 q472 q468 q249 q467 q66) (lw_meth q473)) ydu_J6_length (hO.recv hal) ((w_classAt hts q192).choose_spec) ⟨Nat.le_of_ble_eq_true rfl, Nat.le_of_ble_eq_true rfl⟩ ⟨Nat.le_of_ble_eq_true rfl, Nat.le_of_ble_eq_true rfl⟩ (Nat.le_of_ble_eq_true rfl) dJ7_length_1 (fun r_1 hp => ?_)
  subst hp
  refine g_iretP hx hb hr hlocks ?_ dJ7_length_4
  rfl
set_option maxHeartbeats 1000000 in
theorem m_sbValue (l : Launch) (z : State) (H0 : Heap) (a : Nat) (b : Nat) (ml ct : Int32) (hO : gO z true RJ7 TJ7 4 H0 a [.ref b, .int 0, .int ml, .int ct]) : Met l yJ6_getValue (ws_ yJ6_getValue cJ6_getValue 1 (some (.array .byte))) { frames := 0, cells := 0, slots := 0, locals := 0 } (gPc z H0 [.ref a]) (gPr H0 (fun r => r = b)) 0 0 gno := by
  refine g_start (by decide +kernel) (Nat.le_of_ble_eq_true rfl) ?_
  intro p e s m below meth c ls hx hb hr hlocks hml hown hname hts hwm hl
  have hown : s.vm.findClass "java/lang/AbstractStringBuilder" = some m.cls := hown
  have hal : z.vm.Alike s.vm := hwm.alike
  have hCF : CallFix p m c cJ6_getValue 1 s [.ref a].toArray lw_all "java/lang/AbstractStringBuilder" := ⟨hx, hb, hml, hown, hts⟩
  have hl : lv_has ls 1 [(0, .ref a)] := hl
  refine lv_aload_n hx hb dJ6_getValue_0 rfl (lv_at hl 0 rfl) ?_
  refine gw_get (C := RJ7) (T := TJ7) (N := 4) (v := .ref b) hx hb hts in_J7 hown hal hO 0 (by decide) (hts _ q354) (fun _ h9 => h9) rfl dJ6_getValue_1 ?_
  refine g_aretP hx hb hr hlocks (Or.inr ⟨_, rfl⟩) ?_ dJ6_getValue_4
  rfl
set_option maxHeartbeats 1000000 in
theorem m_newLength (l : Launch) (z : State) (H0 : Heap)  (o g1 g2 : Nat) (h0 : 0 < o + max g1 g2) (h : o + max g1 g2 < 2147483639) : Met l yJ11_newLength (ws_ yJ11_newLength cJ11_newLength 4 (some .int)) { frames := 1, cells := 0, slots := 0, locals := 21 } (gPc z H0 [.int (nI o), .int (nI g1), .int (nI g2)]) (gPi H0 (fun r => r = nI (o + max g1 g2))) 0 0 gno := by
  refine g_start (by decide +kernel) (Nat.le_of_ble_eq_true rfl) ?_
  intro p e s m below meth c ls hx hb hr hlocks hml hown hname hts hwm hl
  have hown : s.vm.findClass "jdk/internal/util/ArraysSupport" = some m.cls := hown
  have hal : z.vm.Alike s.vm := hwm.alike
  have hCF : CallFix p m c cJ11_newLength 4 s [.int (nI o), .int (nI g1), .int (nI g2)].toArray lw_all "jdk/internal/util/ArraysSupport" := ⟨hx, hb, hml, hown, hts⟩
  have hl : lv_has ls 4 [(0, .int (nI o)), (1, .int (nI g1)), (2, .int (nI g2))] := hl
  refine lv_iload_n hx hb dJ11_newLength_0 rfl (lv_at hl 0 rfl) ?_
  refine lv_iload_n hx hb dJ11_newLength_1 rfl (lv_at hl 1 rfl) ?_
  refine lv_iload_n hx hb dJ11_newLength_2 rfl (lv_at hl 2 rfl) ?_
  refine gcS2_iP hCF hwm hl.1 (m_maxI l z H0 (nI g1) (nI g2)  ) (lw_S q266 q267 q72 q268) yd_J12_max ⟨Nat.le_of_ble_eq_true rfl, Nat.le_of_ble_eq_true rfl⟩ ⟨Nat.le_of_ble_eq_true rfl, Nat.le_of_ble_eq_true rfl⟩ (Nat.le_of_ble_eq_true rfl) dJ11_newLength_3 (fun r_1 hp => ?_)
  subst hp
  refine g_topi (v := nI (max g1 g2)) (ai_max (a := g1) (b := g2) (rfl) (rfl) (by omega) (by omega)) ?_
  refine lv_iadd hx hb dJ11_newLength_6 ?_
  refine g_topi (v := nI (o + (max g1 g2))) (ai_add (a := o) (b := (max g1 g2)) (rfl) (rfl)) ?_
  refine lv_istore_n hx hb dJ11_newLength_7 rfl hl (by decide) rfl (fun ls hl => ?_)
  have hl : lv_has ls 4 [(3, .int (nI (o + (max g1 g2)))), (0, .int (nI o)), (1, .int (nI g1)), (2, .int (nI g2))] := hl
  refine lv_iconst (v := 0) hx hb dJ11_newLength_8 (by decide) ?_
  refine lv_iload_n hx hb dJ11_newLength_9 rfl (lv_at hl 0 rfl) ?_
  refine lv_icmp_ge (tgt := 21) hx hb dJ11_newLength_10 (by decide) (fun c_10 => False.elim (by
    have c_10 := (ai_le (a := (o + (max g1 g2))) (b := 0) (rfl) (rfl) (by omega) (by omega)).mp c_10
    omega)) (fun c_10 => ?_)
  have c_10 := mt (ai_le (a := (o + (max g1 g2))) (b := 0) (rfl) (rfl) (by omega) (by omega)).mpr c_10
  refine lv_iload_n hx hb dJ11_newLength_13 rfl (lv_at hl 0 rfl) ?_
  refine lv_ldc (v := 2147483639) hx hb hown (hts _ q269) dJ11_newLength_14 ?_
  refine lv_icmp_gt (tgt := 21) hx hb dJ11_newLength_16 (by decide) (fun c_16 => False.elim (by
    have c_16 := (ai_lt (a := 2147483639) (b := (o + (max g1 g2))) (rfl) (rfl) (by omega) (by omega)).mp c_16
    omega)) (fun c_16 => ?_)
  have c_16 := mt (ai_lt (a := 2147483639) (b := (o + (max g1 g2))) (rfl) (rfl) (by omega) (by omega)).mpr c_16
  refine lv_iload_n hx hb dJ11_newLength_19 rfl (lv_at hl 0 rfl) ?_
  refine g_iretP hx hb hr hlocks ?_ dJ11_newLength_20
  rfl
set_option maxHeartbeats 1000000 in
theorem m_newCap (l : Launch) (z : State) (H0 : Heap) (a : Nat) (n : Nat) (b cap : Nat) (T : List Nat) (hn : cap < n) (hn9 : ncap cap n < 1000000) (hg : gB z H0 a b cap T) : Met l yJ6_newCapacity (ws_ yJ6_newCapacity cJ6_newCapacity 6 (some .int)) { frames := 2, cells := 0, slots := 0, locals := 44 } (gPc z H0 [.ref a, .int (nI n)]) (gPi H0 (fun r => r = nI (ncap cap n))) 0 0 gno := by
  refine g_start (by decide +kernel) (Nat.le_of_ble_eq_true rfl) ?_
  intro p e s m below meth c ls hx hb hr hlocks hml hown hname hts hwm hl
  have hown : s.vm.findClass "java/lang/AbstractStringBuilder" = some m.cls := hown
  have hal : z.vm.Alike s.vm := hwm.alike
  have hCF : CallFix p m c cJ6_newCapacity 6 s [.ref a, .int (nI n)].toArray lw_all "java/lang/AbstractStringBuilder" := ⟨hx, hb, hml, hown, hts⟩
  have hl : lv_has ls 6 [(0, .ref a), (1, .int (nI n))] := hl
  obtain ⟨ml, f, hO, hB, hf, hF, hc, hc9, hT⟩ := hg
  unfold ncap at hn9
  refine lv_aload_n hx hb dJ6_newCapacity_0 rfl (lv_at hl 0 rfl) ?_
  refine gw_get (C := RJ7) (T := TJ7) (N := 4) (v := .ref b) hx hb hts in_J7 hown hal hO 0 (by decide) (hts _ q354) (fun _ h9 => h9) rfl dJ6_newCapacity_1 ?_
  refine gw_len hx hb hal hB dJ6_newCapacity_4 ?_
  refine lv_istore_n hx hb dJ6_newCapacity_5 rfl hl (by decide) rfl (fun ls hl => ?_)
  have hl : lv_has ls 6 [(2, .int (nI cap)), (0, .ref a), (1, .int (nI n))] := hl
  refine lv_iload_n hx hb dJ6_newCapacity_6 rfl (lv_at hl 2 rfl) ?_
  refine lv_aload_n hx hb dJ6_newCapacity_7 rfl (lv_at hl 1 rfl) ?_
  refine gw_get (C := RJ7) (T := TJ7) (N := 4) (v := .int 0) hx hb hts in_J7 hown hal hO 1 (by decide) (hts _ q355) (fun _ h9 => h9) rfl dJ6_newCapacity_8 ?_
  refine lv_ishl hx hb dJ6_newCapacity_11 ?_
  refine g_topi (v := nI n) (ai_shl0 (rfl)) ?_
  refine lv_istore_n hx hb dJ6_newCapacity_12 rfl hl (by decide) rfl (fun ls hl => ?_)
  have hl : lv_has ls 6 [(3, .int (nI n)), (2, .int (nI cap)), (0, .ref a), (1, .int (nI n))] := hl
  refine lv_iload_n hx hb dJ6_newCapacity_13 rfl (lv_at hl 0 rfl) ?_
  refine lv_iload_n hx hb dJ6_newCapacity_14 rfl (lv_at hl 1 rfl) ?_
  refine lv_isub hx hb dJ6_newCapacity_15 ?_
  refine g_topi (v := nI (n - cap)) (ai_sub (a := n) (b := cap) (rfl) (rfl) (by omega)) ?_
  refine lv_istore hx hb dJ6_newCapacity_16 hl (by decide) rfl (fun ls hl => ?_)
  have hl : lv_has ls 6 [(4, .int (nI (n - cap))), (3, .int (nI n)), (2, .int (nI cap)), (0, .ref a), (1, .int (nI n))] := hl
  refine lv_iload_n hx hb dJ6_newCapacity_18 rfl (lv_at hl 2 rfl) ?_
  refine lv_iload hx hb dJ6_newCapacity_19 (lv_at hl 0 rfl) ?_
  refine lv_iload_n hx hb dJ6_newCapacity_21 rfl (lv_at hl 2 rfl) ?_
  refine lv_iconst (v := 2) hx hb dJ6_newCapacity_22 (by decide) ?_
  refine lv_aload_n hx hb dJ6_newCapacity_23 rfl (lv_at hl 3 rfl) ?_
  refine gw_get (C := RJ7) (T := TJ7) (N := 4) (v := .int 0) hx hb hts in_J7 hown hal hO 1 (by decide) (hts _ q355) (fun _ h9 => h9) rfl dJ6_newCapacity_24 ?_
  refine lv_ishl hx hb dJ6_newCapacity_27 ?_
  refine g_topi (v := nI 2) (ai_shl0 (rfl)) ?_
  refine lv_iadd hx hb dJ6_newCapacity_28 ?_
  refine g_topi (v := nI (cap + 2)) (ai_add (a := cap) (b := 2) (rfl) (rfl)) ?_
  refine gcS3_iP hCF hwm hl.1 (m_newLength l z H0  cap (n - cap) (cap + 2) (by omega) (by omega) ) (lw_S q263 q264 q71 q265) yd_J11_newLength ⟨Nat.le_of_ble_eq_true rfl, Nat.le_of_ble_eq_true rfl⟩ ⟨Nat.le_of_ble_eq_true rfl, Nat.le_of_ble_eq_true rfl⟩ (Nat.le_of_ble_eq_true rfl) dJ6_newCapacity_29 (fun r_1 hp => ?_)
  subst hp
  refine lv_istore hx hb dJ6_newCapacity_32 hl (by decide) rfl (fun ls hl => ?_)
  have hl : lv_has ls 6 [(5, .int (nI (cap + max (n - cap) (cap + 2)))), (4, .int (nI (n - cap))), (3, .int (nI n)), (2, .int (nI cap)), (0, .ref a), (1, .int (nI n))] := hl
  refine lv_iload hx hb dJ6_newCapacity_34 (lv_at hl 0 rfl) ?_
  refine lv_ldc (v := 2147483647) hx hb hown (hts _ q229) dJ6_newCapacity_36 ?_
  refine lv_icmp_ne (tgt := 51) hx hb dJ6_newCapacity_38 (by decide) (fun c_38 => ?_) (fun c_38 => False.elim (by
    have c_38 := (ai_eq (a := (cap + max (n - cap) (cap + 2))) (b := 2147483647) (rfl) (rfl) (by omega) (by omega)).mp c_38
    omega))
  have c_38 := mt (ai_eq (a := (cap + max (n - cap) (cap + 2))) (b := 2147483647) (rfl) (rfl) (by omega) (by omega)).mpr c_38
  refine lv_iload hx hb dJ6_newCapacity_51 (lv_at hl 0 rfl) ?_
  refine lv_aload_n hx hb dJ6_newCapacity_53 rfl (lv_at hl 4 rfl) ?_
  refine gw_get (C := RJ7) (T := TJ7) (N := 4) (v := .int 0) hx hb hts in_J7 hown hal hO 1 (by decide) (hts _ q355) (fun _ h9 => h9) rfl dJ6_newCapacity_54 ?_
  refine lv_ishr hx hb dJ6_newCapacity_57 ?_
  refine g_topi (v := nI (cap + max (n - cap) (cap + 2))) (ai_shr0 (rfl)) ?_
  refine g_iretP hx hb hr hlocks ?_ dJ6_newCapacity_58
  rfl
set_option maxHeartbeats 1000000 in
theorem m_ensure (l : Launch) (z : State) (H0 : Heap) (a : Nat) (n : Nat) (b cap : Nat) (T : List Nat) (hg : gB z H0 a b cap T) (hn9 : gcap cap n < 1000000) : Met l yJ6_ensureCapacityInternal (ws_ yJ6_ensureCapacityInternal cJ6_ensureCapacityInternal 3 (none)) { frames := 3, cells := (gcel cap n), slots := (gcst cap n), locals := 69 } (gPc z H0 [.ref a, .int (nI n)]) (gRv (fun q => q = a ∨ H0.size ≤ q) H0 (fun H1 => ∃ b1, gB z H1 a b1 (gcap cap n) T ∧ (b1 = b ∨ H0.size ≤ b1))) (gcel cap n) (gcst cap n) (fun q => q = a ∨ H0.size ≤ q) := by
  refine g_start (by decide +kernel) (Nat.le_of_ble_eq_true rfl) ?_
  intro p e s m below meth c ls hx hb hr hlocks hml hown hname hts hwm hl
  have hown : s.vm.findClass "java/lang/AbstractStringBuilder" = some m.cls := hown
  have hal : z.vm.Alike s.vm := hwm.alike
  have hCF : CallFix p m c cJ6_ensureCapacityInternal 3 s [.ref a, .int (nI n)].toArray lw_all "java/lang/AbstractStringBuilder" := ⟨hx, hb, hml, hown, hts⟩
  have hl : lv_has ls 3 [(0, .ref a), (1, .int (nI n))] := hl
  have hS : va_S (fun q => q = a ∨ H0.size ≤ q) H0 H0 [] := va_S.rf
  obtain ⟨ml, f, hO, hB, hf, hF, hc, hc9, hT⟩ := hg
  have hge := gcap_ge cap n
  have hab : a ≠ b := gA.neO2 hal hB hO (hts _ q192)
  have lt_a := hO.lt
  have lt_b := hB.lt
  refine lv_aload_n hx hb dJ6_ensureCapacityInternal_0 rfl (lv_at hl 0 rfl) ?_
  refine gw_get (C := RJ7) (T := TJ7) (N := 4) (v := .ref b) hx hb hts in_J7 hown hal hO 0 (by decide) (hts _ q354) (fun _ h9 => h9) rfl dJ6_ensureCapacityInternal_1 ?_
  refine gw_len hx hb hal hB dJ6_ensureCapacityInternal_4 ?_
  refine lv_aload_n hx hb dJ6_ensureCapacityInternal_5 rfl (lv_at hl 0 rfl) ?_
  refine gw_get (C := RJ7) (T := TJ7) (N := 4) (v := .int 0) hx hb hts in_J7 hown hal hO 1 (by decide) (hts _ q355) (fun _ h9 => h9) rfl dJ6_ensureCapacityInternal_6 ?_
  refine lv_ishr hx hb dJ6_ensureCapacityInternal_9 ?_
  refine g_topi (v := nI cap) (ai_shr0 (rfl)) ?_
  refine lv_istore_n hx hb dJ6_ensureCapacityInternal_10 rfl hl (by decide) rfl (fun ls hl => ?_)
  have hl : lv_has ls 3 [(2, .int (nI cap)), (0, .ref a), (1, .int (nI n))] := hl
  refine lv_iload_n hx hb dJ6_ensureCapacityInternal_11 rfl (lv_at hl 2 rfl) ?_
  refine lv_iload_n hx hb dJ6_ensureCapacityInternal_12 rfl (lv_at hl 0 rfl) ?_
  refine lv_isub hx hb dJ6_ensureCapacityInternal_13 ?_
  refine g_topi (v := iI ((n : Nat) - (cap : Nat))) (ai_subI (a := (n : Nat)) (b := (cap : Nat)) (nI_iI _) (nI_iI _)) ?_
  refine lv_if_le (tgt := 38) hx hb dJ6_ensureCapacityInternal_14 (by decide) (fun c_14 => ?_) (fun c_14 => ?_)
  · skip
    have c_14 := (ai_leI (a := ((n : Nat) - (cap : Nat))) (b := 0) (rfl) (by decide) (by omega) (by omega) (by omega) (by omega)).mp c_14
    refine g_vret hx hb hr hlocks hS (by first | omega | (dsimp only; omega)) (by first | omega | (dsimp only; omega)) ?_ dJ6_ensureCapacityInternal_38
    exact ⟨b, by rw [show gcap cap n = cap from if_pos (by omega)]; exact ⟨ml, f, hO, hB, hf, hF, hc, hc9, hT⟩, Or.inl rfl⟩
  · skip
    have c_14 := mt (ai_leI (a := ((n : Nat) - (cap : Nat))) (b := 0) (rfl) (by decide) (by omega) (by omega) (by omega) (by omega)).mpr c_14
    have hcel : gcel cap n = 1 := if_neg (by omega)
    have hcst : gcst cap n = ncap cap n := if_neg (by omega)
    have hcap : gcap cap n = ncap cap n := if_neg (by omega)
    refine lv_aload_n hx hb dJ6_ensureCapacityInternal_17 rfl (lv_at hl 1 rfl) ?_
    refine lv_aload_n hx hb dJ6_ensureCapacityInternal_18 rfl (lv_at hl 1 rfl) ?_
    refine gw_get (C := RJ7) (T := TJ7) (N := 4) (v := .ref b) hx hb hts in_J7 hown hal hO 0 (by decide) (hts _ q354) (fun _ h9 => h9) rfl dJ6_ensureCapacityInternal_19 ?_
    refine lv_aload_n hx hb dJ6_ensureCapacityInternal_22 rfl (lv_at hl 1 rfl) ?_
    refine lv_iload_n hx hb dJ6_ensureCapacityInternal_23 rfl (lv_at hl 2 rfl) ?_
    refine gcU1_iP (owner := RJ6) (x := yJ6_newCapacity) rfl hCF hwm hl.1 (m_newCap l z H0 a n b cap T (by omega) (by omega) ⟨ml, f, hO, hB, hf, hF, hc, hc9, hT⟩ ) (lw_app (lw_list5 q259 q2426 qe2 q261 q66) (lw_meth q262)) (by decide +kernel) (hO.recv hal) ⟨Nat.le_of_ble_eq_true rfl, Nat.le_of_ble_eq_true rfl⟩ ⟨by first | omega | (dsimp only; omega), by first | omega | (dsimp only; omega)⟩ (Nat.le_of_ble_eq_true rfl) dJ6_ensureCapacityInternal_24 (fun r_1 hp => ?_)
    subst hp
    refine lv_aload_n hx hb dJ6_ensureCapacityInternal_27 rfl (lv_at hl 1 rfl) ?_
    refine gw_get (C := RJ7) (T := TJ7) (N := 4) (v := .int 0) hx hb hts in_J7 hown hal hO 1 (by decide) (hts _ q355) (fun _ h9 => h9) rfl dJ6_ensureCapacityInternal_28 ?_
    refine lv_ishl hx hb dJ6_ensureCapacityInternal_31 ?_
    refine g_topi (v := nI (ncap cap n)) (ai_shl0 (rfl)) ?_
    refine gcS2_r hCF hwm hl.1 (m_copyOfB l z H0 b cap (ncap cap n) true f (by unfold ncap; omega) (by omega) hB hF ) (lw_S q273 q274 q73 q275) yd_J13_copyOf hS (fun q h => by have hsz := hS.1; (try dsimp only [gfr] at h ⊢) <;> omega) ⟨Nat.le_of_ble_eq_true rfl, Nat.le_of_ble_eq_true rfl⟩ ⟨by first | omega | (dsimp only; omega), by first | omega | (dsimp only; omega)⟩ (Nat.le_of_ble_eq_true rfl) dJ6_ensureCapacityInternal_32 (fun rc H_2 locs hp hex hS => ?_)
    have sz_H_2 : H0.size ≤ H_2.size := hex.1
    have hgx := hex.x
    clear hex
    have hO := hO.x hgx
    have hB := hB.x hgx
    obtain ⟨hr1, hr2⟩ := hp
    have lt_rc := hr2.lt
    refine gw_put (C := RJ7) (T := TJ7) (N := 4) (ty := (.array .byte)) (v := .ref rc) hx hb hts in_J7 tyJ7 tyJ7_ok nmJ7 (hts _ q192) hown hal hO hS (by have hsz := hS.1; (try dsimp only [gfr]) <;> omega) 0 (by decide) (hts _ q354) (fun _ h9 => h9) rfl (by decide +kernel) (rfl) (rfl) (Nat.le_of_ble_eq_true rfl) dJ6_ensureCapacityInternal_35 (fun H_3 locs h_new hch hS => ?_)
    have hB := hB.ch hch (by omega)
    have hr2 := hr2.ch hch (by omega)
    have sz_H_3 := hch.1
    clear hch
    have hO : gO z true RJ7 TJ7 4 H_3 a [.ref rc, .int 0, .int ml, .int (nI T.length)] := h_new
    refine g_vret hx hb hr hlocks hS (by first | omega | (dsimp only; omega)) (by first | omega | (dsimp only; omega)) ?_ dJ6_ensureCapacityInternal_38
    refine ⟨rc, ⟨ml, _, hO, by rw [hcap]; exact hr2, fun i hi => ?_, fun i hi => ?_, by rw [hcap]; unfold ncap; omega, by rw [hcap]; omega, hT⟩, Or.inr (by omega)⟩
    · rw [if_pos (by omega)]; exact hf i hi
    · show fits .byte (.int (if i < cap then f i else 0)) = true
      split
      · rename_i q; exact hF i q
      · exact fits0
set_option maxHeartbeats 1000000 in
theorem m_inflateIf (l : Launch) (z : State) (H0 : Heap) (a : Nat) (x : Nat) (b : Nat) (ml ct : Int32) (w2 : Bool) (b2 : Nat) (T2 : List Nat) {A : Nat → Prop} (k : Nat → Nat) (fv : Nat → Value) (hO : gO z true RJ7 TJ7 4 H0 a [.ref b, .int 0, .int ml, .int ct]) (hstr2 : gS z w2 H0 x b2 T2) (hs : sS z k fv A H0) : Met l yJ6_inflateIfNeededFor (ws_ yJ6_inflateIfNeededFor cJ6_inflateIfNeededFor 2 (none)) { frames := 1, cells := 0, slots := 0, locals := 20 } (gPc z H0 [.ref a, .ref x]) (gPv H0 (True)) 0 0 gno := by
  refine g_start (by decide +kernel) (Nat.le_of_ble_eq_true rfl) ?_
  intro p e s m below meth c ls hx hb hr hlocks hml hown hname hts hwm hl
  have hown : s.vm.findClass "java/lang/AbstractStringBuilder" = some m.cls := hown
  have hal : z.vm.Alike s.vm := hwm.alike
  have hCF : CallFix p m c cJ6_inflateIfNeededFor 2 s [.ref a, .ref x].toArray lw_all "java/lang/AbstractStringBuilder" := ⟨hx, hb, hml, hown, hts⟩
  have hl : lv_has ls 2 [(0, .ref a), (1, .ref x)] := hl
  obtain ⟨h2, hz2, hO2, hB2, hT2⟩ := hstr2
  have hT21 := hT2.1
  refine gw_getsP hx hb hal hs.1 hown (hts _ q294) (fun _ h9 => h9) dJ6_inflateIfNeededFor_0 ?_
  refine lv_if_eq (tgt := 21) hx hb dJ6_inflateIfNeededFor_3 (by decide) (fun c_3 => absurd c_3 (by decide)) (fun c_3 => ?_)
  refine lv_aload_n hx hb dJ6_inflateIfNeededFor_6 rfl (lv_at hl 0 rfl) ?_
  refine gw_get (C := RJ7) (T := TJ7) (N := 4) (v := .int 0) hx hb hts in_J7 hown hal hO 1 (by decide) (hts _ q355) (fun _ h9 => h9) rfl dJ6_inflateIfNeededFor_7 ?_
  refine lv_aload_n hx hb dJ6_inflateIfNeededFor_10 rfl (lv_at hl 1 rfl) ?_
  refine gcV0_iP hCF hwm hl.1 (m_coder l z H0 x w2 b2 T2 k fv ⟨h2, hz2, hO2, hB2, hT2⟩ hs ) (lw_V q230 q223 q224 q64 q225) ydv_J5_coder (hO2.recv hal) ⟨Nat.le_of_ble_eq_true rfl, Nat.le_of_ble_eq_true rfl⟩ ⟨Nat.le_of_ble_eq_true rfl, Nat.le_of_ble_eq_true rfl⟩ (Nat.le_of_ble_eq_true rfl) dJ6_inflateIfNeededFor_11 (fun r_1 hp => ?_)
  subst hp
  refine lv_icmp_eq (tgt := 21) hx hb dJ6_inflateIfNeededFor_14 (by decide) (fun c_14 => ?_) (fun c_14 => absurd (by decide) c_14)
  refine g_vretP hx hb hr hlocks ?_ dJ6_inflateIfNeededFor_21
  trivial
set_option maxHeartbeats 1000000 in
theorem m_getBytes (l : Launch) (z : State) (H0 : Heap) (x : Nat) (d : Nat) (n p0 : Nat) (f : Nat → Int32) (w2 : Bool) (b2 : Nat) (T2 : List Nat) (k : Nat → Nat) (fv : Nat → Value) (hn : n < 268435456) (hp0 : p0 + T2.length ≤ n) (hne : b2 ≠ d) (hd : gI z true .byte H0 d n f) (hstr2 : gS z w2 H0 x b2 T2) (hs : sS z k fv (fun q => q = d) H0) : Met l yJ5_getBytes (ws_ yJ5_getBytes cJ5_getBytes 4 (none)) { frames := 1, cells := 0, slots := 0, locals := 40 } (gPc z H0 [.ref x, .ref d, .int (nI p0), .int 0]) (gRv (fun q => q = d) H0 (fun H1 => gI z true .byte H1 d n (ovl f p0 T2))) 0 0 (fun q => q = d) := by
  refine g_start (by decide +kernel) (Nat.le_of_ble_eq_true rfl) ?_
  intro p e s m below meth c ls hx hb hr hlocks hml hown hname hts hwm hl
  have hown : s.vm.findClass "java/lang/String" = some m.cls := hown
  have hal : z.vm.Alike s.vm := hwm.alike
  have hCF : CallFix p m c cJ5_getBytes 4 s [.ref x, .ref d, .int (nI p0), .int 0].toArray lw_all "java/lang/String" := ⟨hx, hb, hml, hown, hts⟩
  have hl : lv_has ls 4 [(0, .ref x), (1, .ref d), (2, .int (nI p0)), (3, .int 0)] := hl
  have hS : va_S (fun q => q = d) H0 H0 [] := va_S.rf
  obtain ⟨h2, hz2, hO2, hB2, hT2⟩ := hstr2
  have hT21 := hT2.1
  have hxd : x ≠ d := gA.neO2 hal hd hO2 (hts _ q166)
  have lt_x := hO2.lt
  have lt_b2 := hB2.lt
  have lt_d := hd.lt
  refine lv_aload_n hx hb dJ5_getBytes_0 rfl (lv_at hl 0 rfl) ?_
  refine gcV0_iP hCF hwm hl.1 (m_coder l z H0 x w2 b2 T2 k fv ⟨h2, hz2, hO2, hB2, hT2⟩ hs ) (lw_V q222 q223 q224 q64 q225) ydv_J5_coder (hO2.recv hal) ⟨Nat.le_of_ble_eq_true rfl, Nat.le_of_ble_eq_true rfl⟩ ⟨Nat.le_of_ble_eq_true rfl, Nat.le_of_ble_eq_true rfl⟩ (Nat.le_of_ble_eq_true rfl) dJ5_getBytes_1 (fun r_1 hp => ?_)
  subst hp
  refine lv_iload_n hx hb dJ5_getBytes_4 rfl (lv_at hl 3 rfl) ?_
  refine lv_icmp_ne (tgt := 28) hx hb dJ5_getBytes_5 (by decide) (fun c_5 => absurd (rfl) c_5) (fun c_5 => ?_)
  refine lv_aload_n hx hb dJ5_getBytes_8 rfl (lv_at hl 0 rfl) ?_
  refine gw_get (C := RJ5) (T := TJ5) (N := 4) (v := .ref b2) hx hb hts in_J5 hown hal hO2 0 (by decide) (hts _ q523) (fun _ h9 => h9) rfl dJ5_getBytes_9 ?_
  refine lv_iconst (v := 0) hx hb dJ5_getBytes_12 (by decide) ?_
  refine lv_aload_n hx hb dJ5_getBytes_13 rfl (lv_at hl 1 rfl) ?_
  refine lv_iload_n hx hb dJ5_getBytes_14 rfl (lv_at hl 2 rfl) ?_
  refine lv_iload_n hx hb dJ5_getBytes_15 rfl (lv_at hl 3 rfl) ?_
  refine lv_ishl hx hb dJ5_getBytes_16 ?_
  refine g_topi (v := nI p0) (ai_shl0 (rfl)) ?_
  refine lv_aload_n hx hb dJ5_getBytes_17 rfl (lv_at hl 0 rfl) ?_
  refine gw_get (C := RJ5) (T := TJ5) (N := 4) (v := .ref b2) hx hb hts in_J5 hown hal hO2 0 (by decide) (hts _ q523) (fun _ h9 => h9) rfl dJ5_getBytes_18 ?_
  refine gw_len hx hb hal hB2 dJ5_getBytes_21 ?_
  refine gw_copy hx hb (hml.trans hl.1.symm) hal hown (hts _ q352) (hts _ q288) (hts _ q287) (hts _ q74) rfl hB2 hd hS (by have hsz := hS.1; (try dsimp only [gfr]) <;> omega) 0 p0 T2.length (rfl) (rfl) (rfl) (by omega) (by omega) (by omega) (by omega) (fun i hi => fit_bof hT2 _) (Nat.le_of_ble_eq_true rfl) (Nat.le_of_ble_eq_true rfl) dJ5_getBytes_22 (fun H_2 locs h_new hch hS => ?_)
  have hO2 := hO2.ch hch (by omega)
  have hB2 := hB2.ch hch (by omega)
  have sz_H_2 := hch.1
  clear hch
  have hd : gI z true .byte H_2 d n (va_cpy (bof T2) f 0 p0 T2.length) := h_new
  refine lv_goto (tgt := 43) hx hb dJ5_getBytes_25 (by decide) ?_
  refine g_vret hx hb hr hlocks hS (Nat.le_of_ble_eq_true rfl) (Nat.le_of_ble_eq_true rfl) ?_ dJ5_getBytes_43
  rw [cpy_ovl] at hd
  exact hd
set_option maxHeartbeats 1000000 in
theorem m_putStr (l : Launch) (z : State) (H0 : Heap) (a : Nat) (x : Nat) (b cap p0 : Nat) (ml ct : Int32) (f : Nat → Int32) (w2 : Bool) (b2 : Nat) (T2 : List Nat) (k : Nat → Nat) (fv : Nat → Value) (hc9 : cap < 1000000) (hp0 : p0 + T2.length ≤ cap) (hne : b2 ≠ b) (hO : gO z true RJ7 TJ7 4 H0 a [.ref b, .int 0, .int ml, .int ct]) (hB : gI z true .byte H0 b cap f) (hstr2 : gS z w2 H0 x b2 T2) (hs : sS z k fv (fun q => q = b) H0) : Met l yJ6_putStringAt (ws_ yJ6_putStringAt cJ6_putStringAt 3 (none)) { frames := 2, cells := 0, slots := 0, locals := 63 } (gPc z H0 [.ref a, .int (nI p0), .ref x]) (gRv (fun q => q = b) H0 (fun H1 => gI z true .byte H1 b cap (ovl f p0 T2))) 0 0 (fun q => q = b) := by
  refine g_start (by decide +kernel) (Nat.le_of_ble_eq_true rfl) ?_
  intro p e s m below meth c ls hx hb hr hlocks hml hown hname hts hwm hl
  have hown : s.vm.findClass "java/lang/AbstractStringBuilder" = some m.cls := hown
  have hal : z.vm.Alike s.vm := hwm.alike
  have hCF : CallFix p m c cJ6_putStringAt 3 s [.ref a, .int (nI p0), .ref x].toArray lw_all "java/lang/AbstractStringBuilder" := ⟨hx, hb, hml, hown, hts⟩
  have hl : lv_has ls 3 [(0, .ref a), (1, .int (nI p0)), (2, .ref x)] := hl
  have hS : va_S (fun q => q = b) H0 H0 [] := va_S.rf
  obtain ⟨h2, hz2, hO2, hB2, hT2⟩ := hstr2
  have hT21 := hT2.1
  have hab : a ≠ b := gA.neO2 hal hB hO (hts _ q192)
  have hxb : x ≠ b := gA.neO2 hal hB hO2 (hts _ q166)
  have lt_a := hO.lt
  have lt_b := hB.lt
  have lt_x := hO2.lt
  have lt_b2 := hB2.lt
  refine lv_aload_n hx hb dJ6_putStringAt_0 rfl (lv_at hl 0 rfl) ?_
  refine lv_aload_n hx hb dJ6_putStringAt_1 rfl (lv_at hl 2 rfl) ?_
  refine gcU1_vP (owner := RJ6) (x := yJ6_inflateIfNeededFor) rfl hCF hwm hl.1 (m_inflateIf l z H0 a x b ml ct w2 b2 T2 k fv hO ⟨h2, hz2, hO2, hB2, hT2⟩ hs ) (lw_app (lw_list5 q325 q2428 qe4 q327 q66) (lw_meth q328)) (by decide +kernel) (hO.recv hal) ⟨Nat.le_of_ble_eq_true rfl, Nat.le_of_ble_eq_true rfl⟩ ⟨Nat.le_of_ble_eq_true rfl, Nat.le_of_ble_eq_true rfl⟩ (Nat.le_of_ble_eq_true rfl) dJ6_putStringAt_2 (fun hp => ?_)
  clear hp
  refine lv_aload_n hx hb dJ6_putStringAt_5 rfl (lv_at hl 2 rfl) ?_
  refine lv_aload_n hx hb dJ6_putStringAt_6 rfl (lv_at hl 0 rfl) ?_
  refine gw_get (C := RJ7) (T := TJ7) (N := 4) (v := .ref b) hx hb hts in_J7 hown hal hO 0 (by decide) (hts _ q354) (fun _ h9 => h9) rfl dJ6_putStringAt_7 ?_
  refine lv_iload_n hx hb dJ6_putStringAt_10 rfl (lv_at hl 1 rfl) ?_
  refine lv_aload_n hx hb dJ6_putStringAt_11 rfl (lv_at hl 0 rfl) ?_
  refine gw_get (C := RJ7) (T := TJ7) (N := 4) (v := .int 0) hx hb hts in_J7 hown hal hO 1 (by decide) (hts _ q355) (fun _ h9 => h9) rfl dJ6_putStringAt_12 ?_
  refine gcV3_v hCF hwm hl.1 (m_getBytes l z H0 x b cap p0 f w2 b2 T2 k fv (by omega) hp0 hne hB ⟨h2, hz2, hO2, hB2, hT2⟩ hs ) (lw_V q348 q349 q350 q64 q351) ydv_J5_getBytes (hO2.recv hal) hS (fun q h => by have hsz := hS.1; (try dsimp only [gfr] at h ⊢) <;> omega) ⟨Nat.le_of_ble_eq_true rfl, Nat.le_of_ble_eq_true rfl⟩ ⟨Nat.le_of_ble_eq_true rfl, Nat.le_of_ble_eq_true rfl⟩ (Nat.le_of_ble_eq_true rfl) dJ6_putStringAt_15 (fun H_1 locs hp hex hS => ?_)
  have sz_H_1 : H0.size ≤ H_1.size := hex.1
  have hO := hO.ex hex (by intro h; (try dsimp only [gfr] at h) <;> omega)
  have hO2 := hO2.ex hex (by intro h; (try dsimp only [gfr] at h) <;> omega)
  have hB2 := hB2.ex hex (by intro h; (try dsimp only [gfr] at h) <;> omega)
  have hN := hp
  refine g_vret hx hb hr hlocks hS (Nat.le_of_ble_eq_true rfl) (Nat.le_of_ble_eq_true rfl) ?_ dJ6_putStringAt_18
  exact hN
set_option maxHeartbeats 1000000 in
theorem m_append6 (l : Launch) (z : State) (H0 : Heap) (a : Nat) (x : Nat) (b cap : Nat) (T : List Nat) (w2 : Bool) (b2 : Nat) (T2 : List Nat) (k : Nat → Nat) (fv : Nat → Value) (hg : gB z H0 a b cap T) (hn9 : gcap cap (T.length + T2.length) < 1000000) (hstr2 : gS z w2 H0 x b2 T2) (hxa : x ≠ a) (hne : b2 ≠ b) (hs : sS z k fv (fun q => q = a ∨ q = b ∨ H0.size ≤ q) H0) : Met l yJ6_append (ws_ yJ6_append cJ6_append 3 (some (.object "java/lang/AbstractStringBuilder"))) { frames := 4, cells := (gcel cap (T.length + T2.length)), slots := (gcst cap (T.length + T2.length)), locals := 91 } (gPc z H0 [.ref a, .ref x]) (gRr (fun q => q = a ∨ q = b ∨ H0.size ≤ q) H0 (fun r H1 => r = a ∧ ∃ b1, gB z H1 a b1 (gcap cap (T.length + T2.length)) (T ++ T2) ∧ (b1 = b ∨ H0.size ≤ b1))) (gcel cap (T.length + T2.length)) (gcst cap (T.length + T2.length)) (fun q => q = a ∨ q = b ∨ H0.size ≤ q) := by
  refine g_start (by decide +kernel) (Nat.le_of_ble_eq_true rfl) ?_
  intro p e s m below meth c ls hx hb hr hlocks hml hown hname hts hwm hl
  have hown : s.vm.findClass "java/lang/AbstractStringBuilder" = some m.cls := hown
  have hal : z.vm.Alike s.vm := hwm.alike
  have hCF : CallFix p m c cJ6_append 3 s [.ref a, .ref x].toArray lw_all "java/lang/AbstractStringBuilder" := ⟨hx, hb, hml, hown, hts⟩
  have hl : lv_has ls 3 [(0, .ref a), (1, .ref x)] := hl
  have hS : va_S (fun q => q = a ∨ q = b ∨ H0.size ≤ q) H0 H0 [] := va_S.rf
  obtain ⟨ml, f, hO, hB, hf, hF, hc, hc9, hT⟩ := hg
  obtain ⟨h2, hz2, hO2, hB2, hT2⟩ := hstr2
  have hT21 := hT2.1
  have hab : a ≠ b := gA.neO2 hal hB hO (hts _ q192)
  have hxb : x ≠ b := gA.neO2 hal hB hO2 (hts _ q166)
  have h2a : b2 ≠ a := Ne.symm (gA.neO2 hal hB2 hO (hts _ q192))
  have lt_a := hO.lt
  have lt_b := hB.lt
  have lt_x := hO2.lt
  have lt_b2 := hB2.lt
  refine lv_aload_n hx hb dJ6_append_0 rfl (lv_at hl 1 rfl) ?_
  refine lv_ifnonnull (tgt := 9) hx hb dJ6_append_1 (by decide) ?_
  refine lv_aload_n hx hb dJ6_append_9 rfl (lv_at hl 1 rfl) ?_
  refine gcV0_iP hCF hwm hl.1 (m_length l z H0 x w2 b2 T2 k fv ⟨h2, hz2, hO2, hB2, hT2⟩ hs ) (lw_V q218 q219 q220 q64 q221) ydv_J5_length (hO2.recv hal) ⟨Nat.le_of_ble_eq_true rfl, Nat.le_of_ble_eq_true rfl⟩ ⟨by first | omega | (dsimp only; omega), by first | omega | (dsimp only; omega)⟩ (Nat.le_of_ble_eq_true rfl) dJ6_append_10 (fun r_1 hp => ?_)
  subst hp
  refine lv_istore_n hx hb dJ6_append_13 rfl hl (by decide) rfl (fun ls hl => ?_)
  have hl : lv_has ls 3 [(2, .int (nI T2.length)), (0, .ref a), (1, .ref x)] := hl
  refine lv_aload_n hx hb dJ6_append_14 rfl (lv_at hl 1 rfl) ?_
  refine lv_aload_n hx hb dJ6_append_15 rfl (lv_at hl 1 rfl) ?_
  refine gw_get (C := RJ7) (T := TJ7) (N := 4) (v := .int (nI T.length)) hx hb hts in_J7 hown hal hO 3 (by decide) (hts _ q358) (fun _ h9 => h9) rfl dJ6_append_16 ?_
  refine lv_iload_n hx hb dJ6_append_19 rfl (lv_at hl 0 rfl) ?_
  refine lv_iadd hx hb dJ6_append_20 ?_
  refine g_topi (v := nI (T.length + T2.length)) (ai_add (a := T.length) (b := T2.length) (rfl) (rfl)) ?_
  refine gcU1_v (owner := RJ6) (x := yJ6_ensureCapacityInternal) rfl hCF hwm hl.1 (m_ensure l z H0 a (T.length + T2.length) b cap T ⟨ml, f, hO, hB, hf, hF, hc, hc9, hT⟩ hn9 ) (lw_app (lw_list5 q255 q2425 qe1 q257 q66) (lw_meth q258)) (by decide +kernel) (hO.recv hal) hS (fun q h => by have hsz := hS.1; (try dsimp only [gfr] at h ⊢) <;> omega) ⟨Nat.le_of_ble_eq_true rfl, Nat.le_of_ble_eq_true rfl⟩ ⟨by first | omega | (dsimp only; omega), by first | omega | (dsimp only; omega)⟩ (Nat.le_of_ble_eq_true rfl) dJ6_append_21 (fun H_2 locs hp hex hS => ?_)
  have sz_H_2 : H0.size ≤ H_2.size := hex.1
  have hO2 := hO2.ex hex (by intro h; (try dsimp only [gfr] at h) <;> omega)
  have hB2 := hB2.ex hex (by intro h; (try dsimp only [gfr] at h) <;> omega)
  obtain ⟨b1, ⟨ml1, f1, hO1, hB1, hf1, hF1, hc1, hc91, hT1⟩, hb1⟩ := hp
  have hge1 := gcap_ge cap (T.length + T2.length)
  have hab1 : a ≠ b1 := gA.neO2 hal hB1 hO1 (hts _ q192)
  have lt_a := hO1.lt
  have lt_b1 := hB1.lt
  refine lv_aload_n hx hb dJ6_append_24 rfl (lv_at hl 1 rfl) ?_
  refine lv_aload_n hx hb dJ6_append_25 rfl (lv_at hl 1 rfl) ?_
  refine gw_get (C := RJ7) (T := TJ7) (N := 4) (v := .int (nI T.length)) hx hb hts in_J7 hown hal hO1 3 (by decide) (hts _ q358) (fun _ h9 => h9) rfl dJ6_append_26 ?_
  refine lv_aload_n hx hb dJ6_append_29 rfl (lv_at hl 2 rfl) ?_
  refine gcU2_v (owner := RJ6) (x := yJ6_putStringAt) rfl hCF hwm hl.1 (m_putStr l z H_2 a x b1 (gcap cap (T.length + T2.length)) T.length ml1 (nI T.length) f1 w2 b2 T2 k fv hc91 (by omega) (by omega) hO1 hB1 ⟨h2, hz2, hO2, hB2, hT2⟩ (hs.call hS (fun q h => by have hsz := hS.1; (try dsimp only [gfr] at h ⊢) <;> omega)) ) (lw_app (lw_list5 q321 q2427 qe3 q323 q66) (lw_meth q324)) (by decide +kernel) (hO1.recv hal) hS (fun q h => by have hsz := hS.1; (try dsimp only [gfr] at h ⊢) <;> omega) ⟨Nat.le_of_ble_eq_true rfl, Nat.le_of_ble_eq_true rfl⟩ ⟨by first | omega | (dsimp only; omega), by first | omega | (dsimp only; omega)⟩ (Nat.le_of_ble_eq_true rfl) dJ6_append_30 (fun H_4 locs hp hex hS => ?_)
  have sz_H_4 : H_2.size ≤ H_4.size := hex.1
  have hO2 := hO2.ex hex (by intro h; (try dsimp only [gfr] at h) <;> omega)
  have hB2 := hB2.ex hex (by intro h; (try dsimp only [gfr] at h) <;> omega)
  have hO1 := hO1.ex hex (by intro h; (try dsimp only [gfr] at h) <;> omega)
  have hB3 := hp
  have lt_b1 := hB3.lt
  refine lv_aload_n hx hb dJ6_append_33 rfl (lv_at hl 1 rfl) ?_
  refine lv_dup hx hb dJ6_append_34 rfl ?_
  refine gw_get (C := RJ7) (T := TJ7) (N := 4) (v := .int (nI T.length)) hx hb hts in_J7 hown hal hO1 3 (by decide) (hts _ q358) (fun _ h9 => h9) rfl dJ6_append_35 ?_
  refine lv_iload_n hx hb dJ6_append_38 rfl (lv_at hl 0 rfl) ?_
  refine lv_iadd hx hb dJ6_append_39 ?_
  refine g_topi (v := nI (T.length + T2.length)) (ai_add (a := T.length) (b := T2.length) (rfl) (rfl)) ?_
  refine gw_put (C := RJ7) (T := TJ7) (N := 4) (ty := .int) (v := .int (nI (T.length + T2.length))) hx hb hts in_J7 tyJ7 tyJ7_ok nmJ7 (hts _ q192) hown hal hO1 hS (by have hsz := hS.1; (try dsimp only [gfr]) <;> omega) 3 (by decide) (hts _ q358) (fun _ h9 => h9) rfl (by decide +kernel) (rfl) (rfl) (Nat.le_of_ble_eq_true rfl) dJ6_append_40 (fun H_6 locs h_new hch hS => ?_)
  have hO2 := hO2.ch hch (by omega)
  have hB2 := hB2.ch hch (by omega)
  have hB3 := hB3.ch hch (by omega)
  have sz_H_6 := hch.1
  clear hch
  have hO1 : gO z true RJ7 TJ7 4 H_6 a [.ref b1, .int 0, .int ml1, .int (nI (T.length + T2.length))] := h_new
  refine lv_aload_n hx hb dJ6_append_43 rfl (lv_at hl 1 rfl) ?_
  refine g_aret hx hb hr hlocks (Or.inl ⟨_, rfl⟩) hS (by first | omega | (dsimp only; omega)) (by first | omega | (dsimp only; omega)) ?_ dJ6_append_44
  refine ⟨rfl, b1, ⟨ml1, _, by rw [List.length_append]; exact hO1, hB3, ovl_app hf1, fitB_ovl hF1 _ hT2.2, by rw [List.length_append]; omega, hc91, app128 hT hT2.2⟩, hb1⟩
set_option maxHeartbeats 1000000 in
theorem m_append (l : Launch) (z : State) (H0 : Heap) (a : Nat) (x : Nat) (b cap : Nat) (T : List Nat) (w2 : Bool) (b2 : Nat) (T2 : List Nat) (k : Nat → Nat) (fv : Nat → Value) (hg : gB z H0 a b cap T) (hn9 : gcap cap (T.length + T2.length) < 1000000) (hstr2 : gS z w2 H0 x b2 T2) (hxa : x ≠ a) (hne : b2 ≠ b) (hs : sS z k fv (fun q => q = a ∨ q = b ∨ H0.size ≤ q) H0) : Met l yJ7_append_2 (ws_ yJ7_append_2 cJ7_append_2 2 (some (.object "java/lang/StringBuilder"))) { frames := 5, cells := (gcel cap (T.length + T2.length)), slots := (gcst cap (T.length + T2.length)), locals := 113 } (gPc z H0 [.ref a, .ref x]) (gRr (fun q => q = a ∨ q = b ∨ H0.size ≤ q) H0 (fun r H1 => r = a ∧ ∃ b1, gB z H1 a b1 (gcap cap (T.length + T2.length)) (T ++ T2) ∧ (b1 = b ∨ H0.size ≤ b1))) (gcel cap (T.length + T2.length)) (gcst cap (T.length + T2.length)) (fun q => q = a ∨ q = b ∨ H0.size ≤ q) := by
  refine g_start (by decide +kernel) (Nat.le_of_ble_eq_true rfl) ?_
  intro p e s m below meth c ls hx hb hr hlocks hml hown hname hts hwm hl
  have hown : s.vm.findClass "java/lang/StringBuilder" = some m.cls := hown
  have hal : z.vm.Alike s.vm := hwm.alike
  have hCF : CallFix p m c cJ7_append_2 2 s [.ref a, .ref x].toArray lw_all "java/lang/StringBuilder" := ⟨hx, hb, hml, hown, hts⟩
  have hl : lv_has ls 2 [(0, .ref a), (1, .ref x)] := hl
  have hS : va_S (fun q => q = a ∨ q = b ∨ H0.size ≤ q) H0 H0 [] := va_S.rf
  obtain ⟨ml, f, hO, hB, hf, hF, hc, hc9, hT⟩ := hg
  obtain ⟨h2, hz2, hO2, hB2, hT2⟩ := hstr2
  have hT21 := hT2.1
  have lt_a := hO.lt
  have lt_b := hB.lt
  have lt_x := hO2.lt
  have lt_b2 := hB2.lt
  refine lv_aload_n hx hb dJ7_append_2_0 rfl (lv_at hl 0 rfl) ?_
  refine lv_aload_n hx hb dJ7_append_2_1 rfl (lv_at hl 1 rfl) ?_
  refine gcSU1_r hCF hwm hl.1 (m_append6 l z H0 a x b cap T w2 b2 T2 k fv ⟨ml, f, hO, hB, hf, hF, hc, hc9, hT⟩ hn9 ⟨h2, hz2, hO2, hB2, hT2⟩ hxa hne hs ) (lw_app (lw_list5 q248 q240 q249 q239 q66) (lw_meth q250)) ydu_J6_append (hO.recv hal) ((w_classAt hts q192).choose_spec) hS (fun q h => by have hsz := hS.1; (try dsimp only [gfr] at h ⊢) <;> omega) ⟨Nat.le_of_ble_eq_true rfl, Nat.le_of_ble_eq_true rfl⟩ ⟨by first | omega | (dsimp only; omega), by first | omega | (dsimp only; omega)⟩ (Nat.le_of_ble_eq_true rfl) dJ7_append_2_2 (fun r_2 H_1 locs hp hex hS => ?_)
  have sz_H_1 : H0.size ≤ H_1.size := hex.1
  obtain ⟨hr0, hN⟩ := hp
  refine lv_pop hx hb dJ7_append_2_5 rfl ?_
  refine lv_aload_n hx hb dJ7_append_2_6 rfl (lv_at hl 0 rfl) ?_
  refine g_aret hx hb hr hlocks (Or.inl ⟨_, rfl⟩) hS (by first | omega | (dsimp only; omega)) (by first | omega | (dsimp only; omega)) ?_ dJ7_append_2_7
  exact ⟨rfl, hN⟩
set_option maxHeartbeats 1000000 in
theorem m_appendBr (l : Launch) (z : State) (H0 : Heap) (a : Nat) (x : Nat) (b cap : Nat) (T : List Nat) (w2 : Bool) (b2 : Nat) (T2 : List Nat) (k : Nat → Nat) (fv : Nat → Value) (hg : gB z H0 a b cap T) (hn9 : gcap cap (T.length + T2.length) < 1000000) (hstr2 : gS z w2 H0 x b2 T2) (hxa : x ≠ a) (hne : b2 ≠ b) (hs : sS z k fv (fun q => q = a ∨ q = b ∨ H0.size ≤ q) H0) : Met l yJ7_append (ws_ yJ7_append cJ7_append 2 (some (.object "java/lang/AbstractStringBuilder"))) { frames := 6, cells := (gcel cap (T.length + T2.length)), slots := (gcst cap (T.length + T2.length)), locals := 134 } (gPc z H0 [.ref a, .ref x]) (gRr (fun q => q = a ∨ q = b ∨ H0.size ≤ q) H0 (fun r H1 => r = a ∧ ∃ b1, gB z H1 a b1 (gcap cap (T.length + T2.length)) (T ++ T2) ∧ (b1 = b ∨ H0.size ≤ b1))) (gcel cap (T.length + T2.length)) (gcst cap (T.length + T2.length)) (fun q => q = a ∨ q = b ∨ H0.size ≤ q) := by
  refine g_start (by decide +kernel) (Nat.le_of_ble_eq_true rfl) ?_
  intro p e s m below meth c ls hx hb hr hlocks hml hown hname hts hwm hl
  have hown : s.vm.findClass "java/lang/StringBuilder" = some m.cls := hown
  have hal : z.vm.Alike s.vm := hwm.alike
  have hCF : CallFix p m c cJ7_append 2 s [.ref a, .ref x].toArray lw_all "java/lang/StringBuilder" := ⟨hx, hb, hml, hown, hts⟩
  have hl : lv_has ls 2 [(0, .ref a), (1, .ref x)] := hl
  have hS : va_S (fun q => q = a ∨ q = b ∨ H0.size ≤ q) H0 H0 [] := va_S.rf
  obtain ⟨ml, f, hO, hB, hf, hF, hc, hc9, hT⟩ := hg
  obtain ⟨h2, hz2, hO2, hB2, hT2⟩ := hstr2
  have hT21 := hT2.1
  have lt_a := hO.lt
  have lt_b := hB.lt
  have lt_x := hO2.lt
  have lt_b2 := hB2.lt
  refine lv_aload_n hx hb dJ7_append_0 rfl (lv_at hl 0 rfl) ?_
  refine lv_aload_n hx hb dJ7_append_1 rfl (lv_at hl 1 rfl) ?_
  refine gcV1_r hCF hwm hl.1 (m_append l z H0 a x b cap T w2 b2 T2 k fv ⟨ml, f, hO, hB, hf, hF, hc, hc9, hT⟩ hn9 ⟨h2, hz2, hO2, hB2, hT2⟩ hxa hne hs ) (lw_V q244 q245 q246 q67 q247) ydv_J7_append_2 (hO.recv hal) hS (fun q h => by have hsz := hS.1; (try dsimp only [gfr] at h ⊢) <;> omega) ⟨Nat.le_of_ble_eq_true rfl, Nat.le_of_ble_eq_true rfl⟩ ⟨by first | omega | (dsimp only; omega), by first | omega | (dsimp only; omega)⟩ (Nat.le_of_ble_eq_true rfl) dJ7_append_2 (fun r_2 H_1 locs hp hex hS => ?_)
  have sz_H_1 : H0.size ≤ H_1.size := hex.1
  obtain ⟨hr0, hN⟩ := hp
  refine g_aret hx hb hr hlocks (Or.inl ⟨_, rfl⟩) hS (by first | omega | (dsimp only; omega)) (by first | omega | (dsimp only; omega)) ?_ dJ7_append_5
  exact ⟨hr0, hN⟩
set_option maxHeartbeats 1000000 in
theorem m_appendJ6 (l : Launch) (z : State) (H0 : Heap) (a : Nat) (v : Int) (b cap : Nat) (T : List Nat) (k : Nat → Nat) (fv : Nat → Value) (h1 : -9223372036854775808 ≤ v) (h2 : v < 9223372036854775808) (hg : gB z H0 a b cap T) (hn9 : gcap cap (T.length + (sdg v).length) < 1000000) (hs : sS z k fv (fun q => q = a ∨ q = b ∨ H0.size ≤ q) H0) : Met l yJ6_append_2 (ws_ yJ6_append_2 cJ6_append_2 5 (some (.object "java/lang/AbstractStringBuilder"))) { frames := 4, cells := (gcel cap (T.length + (sdg v).length)), slots := (gcst cap (T.length + (sdg v).length)), locals := 91 } (gPc z H0 [.ref a, .long (lI v)]) (gRr (fun q => q = a ∨ q = b ∨ H0.size ≤ q) H0 (fun r H1 => r = a ∧ ∃ b1, gB z H1 a b1 (gcap cap (T.length + (sdg v).length)) (T ++ sdg v) ∧ (b1 = b ∨ H0.size ≤ b1))) (gcel cap (T.length + (sdg v).length)) (gcst cap (T.length + (sdg v).length)) (fun q => q = a ∨ q = b ∨ H0.size ≤ q) := by
  refine g_start (by decide +kernel) (Nat.le_of_ble_eq_true rfl) ?_
  intro p e s m below meth c ls hx hb hr hlocks hml hown hname hts hwm hl
  have hown : s.vm.findClass "java/lang/AbstractStringBuilder" = some m.cls := hown
  have hal : z.vm.Alike s.vm := hwm.alike
  have hCF : CallFix p m c cJ6_append_2 5 s [.ref a, .long (lI v)].toArray lw_all "java/lang/AbstractStringBuilder" := ⟨hx, hb, hml, hown, hts⟩
  have hl : lv_has ls 5 [(0, .ref a), (1, .long (lI v))] := hl
  have hS : va_S (fun q => q = a ∨ q = b ∨ H0.size ≤ q) H0 H0 [] := va_S.rf
  obtain ⟨ml, f, hO, hB, hf, hF, hc, hc9, hT⟩ := hg
  have hab : a ≠ b := gA.neO2 hal hB hO (hts _ q192)
  have hv19 := nd_le19 (v := v) (by omega) (by omega)
  have hsl := sdg_len v
  have lt_a := hO.lt
  have lt_b := hB.lt
  refine lv_aload_n hx hb dJ6_append_2_0 rfl (lv_at hl 0 rfl) ?_
  refine gw_get (C := RJ7) (T := TJ7) (N := 4) (v := .int (nI T.length)) hx hb hts in_J7 hown hal hO 3 (by decide) (hts _ q358) (fun _ h9 => h9) rfl dJ6_append_2_1 ?_
  refine lv_istore_n hx hb dJ6_append_2_4 rfl hl (by decide) rfl (fun ls hl => ?_)
  have hl : lv_has ls 5 [(3, .int (nI T.length)), (0, .ref a), (1, .long (lI v))] := hl
  refine lv_iload_n hx hb dJ6_append_2_5 rfl (lv_at hl 0 rfl) ?_
  refine lv_lload_n hx hb dJ6_append_2_6 rfl (lv_at hl 2 rfl) ?_
  refine gcS1_iP hCF hwm hl.1 (m_stringSizeJ l z H0  v h1 h2 ) (lw_S q398 q399 q77 q400) yd_J16_stringSize ⟨Nat.le_of_ble_eq_true rfl, Nat.le_of_ble_eq_true rfl⟩ ⟨by first | omega | (dsimp only; omega), by first | omega | (dsimp only; omega)⟩ (Nat.le_of_ble_eq_true rfl) dJ6_append_2_7 (fun r_1 hp => ?_)
  subst hp
  rw [← hsl]
  refine lv_iadd hx hb dJ6_append_2_10 ?_
  refine g_topi (v := nI (T.length + ((sdg v).length))) (ai_add (a := T.length) (b := ((sdg v).length)) (rfl) (rfl)) ?_
  refine lv_istore hx hb dJ6_append_2_11 hl (by decide) rfl (fun ls hl => ?_)
  have hl : lv_has ls 5 [(4, .int (nI (T.length + ((sdg v).length)))), (3, .int (nI T.length)), (0, .ref a), (1, .long (lI v))] := hl
  refine lv_aload_n hx hb dJ6_append_2_13 rfl (lv_at hl 2 rfl) ?_
  refine lv_iload hx hb dJ6_append_2_14 (lv_at hl 0 rfl) ?_
  refine gcU1_v (owner := RJ6) (x := yJ6_ensureCapacityInternal) rfl hCF hwm hl.1 (m_ensure l z H0 a (T.length + (sdg v).length) b cap T ⟨ml, f, hO, hB, hf, hF, hc, hc9, hT⟩ hn9 ) (lw_app (lw_list5 q255 q2425 qe1 q257 q66) (lw_meth q258)) (by decide +kernel) (hO.recv hal) hS (fun q h => by have hsz := hS.1; (try dsimp only [gfr] at h ⊢) <;> omega) ⟨Nat.le_of_ble_eq_true rfl, Nat.le_of_ble_eq_true rfl⟩ ⟨by first | omega | (dsimp only; omega), by first | omega | (dsimp only; omega)⟩ (Nat.le_of_ble_eq_true rfl) dJ6_append_2_16 (fun H_2 locs hp hex hS => ?_)
  have sz_H_2 : H0.size ≤ H_2.size := hex.1
  obtain ⟨b1, ⟨ml1, f1, hO1, hB1, hf1, hF1, hc1, hc91, hT1⟩, hb1⟩ := hp
  have hge1 := gcap_ge cap (T.length + (sdg v).length)
  have hab1 : a ≠ b1 := gA.neO2 hal hB1 hO1 (hts _ q192)
  have lt_a := hO1.lt
  have lt_b1 := hB1.lt
  refine lv_aload_n hx hb dJ6_append_2_19 rfl (lv_at hl 2 rfl) ?_
  refine gcU0_iP (owner := RJ6) (x := yJ6_isLatin1) rfl hCF hwm hl.1 (m_sbLatin l z H_2 a b1 ml1 (nI T.length) k fv hO1 (hs.cur hS) ) (lw_app (lw_list5 q289 q291 q292 q290 q66) (lw_meth q293)) (by decide +kernel) (hO1.recv hal) ⟨Nat.le_of_ble_eq_true rfl, Nat.le_of_ble_eq_true rfl⟩ ⟨by first | omega | (dsimp only; omega), by first | omega | (dsimp only; omega)⟩ (Nat.le_of_ble_eq_true rfl) dJ6_append_2_20 (fun r_4 hp => ?_)
  subst hp
  refine lv_if_eq (tgt := 40) hx hb dJ6_append_2_23 (by decide) (fun c_23 => absurd c_23 (by decide)) (fun c_23 => ?_)
  refine lv_lload_n hx hb dJ6_append_2_26 rfl (lv_at hl 3 rfl) ?_
  refine lv_iload hx hb dJ6_append_2_27 (lv_at hl 0 rfl) ?_
  refine lv_aload_n hx hb dJ6_append_2_29 rfl (lv_at hl 2 rfl) ?_
  refine gw_get (C := RJ7) (T := TJ7) (N := 4) (v := .ref b1) hx hb hts in_J7 hown hal hO1 0 (by decide) (hts _ q354) (fun _ h9 => h9) rfl dJ6_append_2_30 ?_
  refine gcS3_i hCF hwm hl.1 (m_getCharsJ l z H_2 b1 v (T.length + (sdg v).length) (gcap cap (T.length + (sdg v).length)) f1 true k h1 h2 (by omega) (by omega) (by omega) hB1 (hs.2.2.2.1.call hS (fun q h => by have hsz := hS.1; (try dsimp only [gfr] at h ⊢) <;> omega)) ) (lw_S q403 q404 q77 q405) yd_J16_getChars hS (fun q h => by have hsz := hS.1; (try dsimp only [gfr] at h ⊢) <;> omega) ⟨Nat.le_of_ble_eq_true rfl, Nat.le_of_ble_eq_true rfl⟩ ⟨by first | omega | (dsimp only; omega), by first | omega | (dsimp only; omega)⟩ (Nat.le_of_ble_eq_true rfl) dJ6_append_2_33 (fun rg H_5 locs hp hex hS => ?_)
  have sz_H_5 : H_2.size ≤ H_5.size := hex.1
  have hO1 := hO1.ex hex (by intro h; (try dsimp only [gfr] at h) <;> omega)
  obtain ⟨hrg, hB3⟩ := hp
  rw [show T.length + (sdg v).length - (nd v.natAbs + mn v) = T.length by omega] at hB3
  have lt_b1 := hB3.lt
  refine lv_pop hx hb dJ6_append_2_36 rfl ?_
  refine lv_goto (tgt := 52) hx hb dJ6_append_2_37 (by decide) ?_
  refine lv_aload_n hx hb dJ6_append_2_52 rfl (lv_at hl 2 rfl) ?_
  refine lv_iload hx hb dJ6_append_2_53 (lv_at hl 0 rfl) ?_
  refine gw_put (C := RJ7) (T := TJ7) (N := 4) (ty := .int) (v := .int (nI (T.length + ((sdg v).length)))) hx hb hts in_J7 tyJ7 tyJ7_ok nmJ7 (hts _ q192) hown hal hO1 hS (by have hsz := hS.1; (try dsimp only [gfr]) <;> omega) 3 (by decide) (hts _ q358) (fun _ h9 => h9) rfl (by decide +kernel) (rfl) (rfl) (Nat.le_of_ble_eq_true rfl) dJ6_append_2_55 (fun H_6 locs h_new hch hS => ?_)
  have hB3 := hB3.ch hch (by omega)
  have sz_H_6 := hch.1
  clear hch
  have hO1 : gO z true RJ7 TJ7 4 H_6 a [.ref b1, .int 0, .int ml1, .int (nI (T.length + ((sdg v).length)))] := h_new
  refine lv_aload_n hx hb dJ6_append_2_58 rfl (lv_at hl 2 rfl) ?_
  refine g_aret hx hb hr hlocks (Or.inl ⟨_, rfl⟩) hS (by first | omega | (dsimp only; omega)) (by first | omega | (dsimp only; omega)) ?_ dJ6_append_2_59
  refine ⟨rfl, b1, ⟨ml1, _, by rw [List.length_append]; exact hO1, hB3, ovl_app hf1, fitB_ovl hF1 _ (sdg_c v), by rw [List.length_append]; omega, hc91, app128 hT (sdg_c v)⟩, hb1⟩
set_option maxHeartbeats 1000000 in
theorem m_appendJ (l : Launch) (z : State) (H0 : Heap) (a : Nat) (v : Int) (b cap : Nat) (T : List Nat) (k : Nat → Nat) (fv : Nat → Value) (h1 : -9223372036854775808 ≤ v) (h2 : v < 9223372036854775808) (hg : gB z H0 a b cap T) (hn9 : gcap cap (T.length + (sdg v).length) < 1000000) (hs : sS z k fv (fun q => q = a ∨ q = b ∨ H0.size ≤ q) H0) : Met l yJ7_append_3 (ws_ yJ7_append_3 cJ7_append_3 3 (some (.object "java/lang/StringBuilder"))) { frames := 5, cells := (gcel cap (T.length + (sdg v).length)), slots := (gcst cap (T.length + (sdg v).length)), locals := 115 } (gPc z H0 [.ref a, .long (lI v)]) (gRr (fun q => q = a ∨ q = b ∨ H0.size ≤ q) H0 (fun r H1 => r = a ∧ ∃ b1, gB z H1 a b1 (gcap cap (T.length + (sdg v).length)) (T ++ sdg v) ∧ (b1 = b ∨ H0.size ≤ b1))) (gcel cap (T.length + (sdg v).length)) (gcst cap (T.length + (sdg v).length)) (fun q => q = a ∨ q = b ∨ H0.size ≤ q) := by
  refine g_start (by decide +kernel) (Nat.le_of_ble_eq_true rfl) ?_
  intro p e s m below meth c ls hx hb hr hlocks hml hown hname hts hwm hl
  have hown : s.vm.findClass "java/lang/StringBuilder" = some m.cls := hown
  have hal : z.vm.Alike s.vm := hwm.alike
  have hCF : CallFix p m c cJ7_append_3 3 s [.ref a, .long (lI v)].toArray lw_all "java/lang/StringBuilder" := ⟨hx, hb, hml, hown, hts⟩
  have hl : lv_has ls 3 [(0, .ref a), (1, .long (lI v))] := hl
  have hS : va_S (fun q => q = a ∨ q = b ∨ H0.size ≤ q) H0 H0 [] := va_S.rf
  obtain ⟨ml, f, hO, hB, hf, hF, hc, hc9, hT⟩ := hg
  have lt_a := hO.lt
  have lt_b := hB.lt
  refine lv_aload_n hx hb dJ7_append_3_0 rfl (lv_at hl 0 rfl) ?_
  refine lv_lload_n hx hb dJ7_append_3_1 rfl (lv_at hl 1 rfl) ?_
  refine gcSU1_r hCF hwm hl.1 (m_appendJ6 l z H0 a v b cap T k fv h1 h2 ⟨ml, f, hO, hB, hf, hF, hc, hc9, hT⟩ hn9 hs ) (lw_app (lw_list5 q395 q2430 q249 q396 q66) (lw_meth q397)) ydu_J6_append_2 (hO.recv hal) ((w_classAt hts q192).choose_spec) hS (fun q h => by have hsz := hS.1; (try dsimp only [gfr] at h ⊢) <;> omega) ⟨Nat.le_of_ble_eq_true rfl, Nat.le_of_ble_eq_true rfl⟩ ⟨by first | omega | (dsimp only; omega), by first | omega | (dsimp only; omega)⟩ (Nat.le_of_ble_eq_true rfl) dJ7_append_3_2 (fun r_2 H_1 locs hp hex hS => ?_)
  have sz_H_1 : H0.size ≤ H_1.size := hex.1
  obtain ⟨hr0, hN⟩ := hp
  refine lv_pop hx hb dJ7_append_3_5 rfl ?_
  refine lv_aload_n hx hb dJ7_append_3_6 rfl (lv_at hl 0 rfl) ?_
  refine g_aret hx hb hr hlocks (Or.inl ⟨_, rfl⟩) hS (by first | omega | (dsimp only; omega)) (by first | omega | (dsimp only; omega)) ?_ dJ7_append_3_7
  exact ⟨rfl, hN⟩
set_option maxHeartbeats 1000000 in
theorem m_appendI6 (l : Launch) (z : State) (H0 : Heap) (a : Nat) (v : Int) (b cap : Nat) (T : List Nat) (k : Nat → Nat) (fv : Nat → Value) (h1 : -2147483648 ≤ v) (h2 : v < 2147483648) (hg : gB z H0 a b cap T) (hn9 : gcap cap (T.length + (sdg v).length) < 1000000) (hs : sS z k fv (fun q => q = a ∨ q = b ∨ H0.size ≤ q) H0) : Met l yJ6_append_3 (ws_ yJ6_append_3 cJ6_append_3 4 (some (.object "java/lang/AbstractStringBuilder"))) { frames := 4, cells := (gcel cap (T.length + (sdg v).length)), slots := (gcst cap (T.length + (sdg v).length)), locals := 91 } (gPc z H0 [.ref a, .int (iI v)]) (gRr (fun q => q = a ∨ q = b ∨ H0.size ≤ q) H0 (fun r H1 => r = a ∧ ∃ b1, gB z H1 a b1 (gcap cap (T.length + (sdg v).length)) (T ++ sdg v) ∧ (b1 = b ∨ H0.size ≤ b1))) (gcel cap (T.length + (sdg v).length)) (gcst cap (T.length + (sdg v).length)) (fun q => q = a ∨ q = b ∨ H0.size ≤ q) := by
  refine g_start (by decide +kernel) (Nat.le_of_ble_eq_true rfl) ?_
  intro p e s m below meth c ls hx hb hr hlocks hml hown hname hts hwm hl
  have hown : s.vm.findClass "java/lang/AbstractStringBuilder" = some m.cls := hown
  have hal : z.vm.Alike s.vm := hwm.alike
  have hCF : CallFix p m c cJ6_append_3 4 s [.ref a, .int (iI v)].toArray lw_all "java/lang/AbstractStringBuilder" := ⟨hx, hb, hml, hown, hts⟩
  have hl : lv_has ls 4 [(0, .ref a), (1, .int (iI v))] := hl
  have hS : va_S (fun q => q = a ∨ q = b ∨ H0.size ≤ q) H0 H0 [] := va_S.rf
  obtain ⟨ml, f, hO, hB, hf, hF, hc, hc9, hT⟩ := hg
  have hab : a ≠ b := gA.neO2 hal hB hO (hts _ q192)
  have hv19 := nd_le19 (v := v) (by omega) (by omega)
  have hsl := sdg_len v
  have lt_a := hO.lt
  have lt_b := hB.lt
  refine lv_aload_n hx hb dJ6_append_3_0 rfl (lv_at hl 0 rfl) ?_
  refine gw_get (C := RJ7) (T := TJ7) (N := 4) (v := .int (nI T.length)) hx hb hts in_J7 hown hal hO 3 (by decide) (hts _ q358) (fun _ h9 => h9) rfl dJ6_append_3_1 ?_
  refine lv_istore_n hx hb dJ6_append_3_4 rfl hl (by decide) rfl (fun ls hl => ?_)
  have hl : lv_has ls 4 [(2, .int (nI T.length)), (0, .ref a), (1, .int (iI v))] := hl
  refine lv_iload_n hx hb dJ6_append_3_5 rfl (lv_at hl 0 rfl) ?_
  refine lv_iload_n hx hb dJ6_append_3_6 rfl (lv_at hl 2 rfl) ?_
  refine gcS1_iP hCF hwm hl.1 (m_stringSizeI l z H0  v h1 h2 ) (lw_S q435 q436 q78 q437) yd_J17_stringSize ⟨Nat.le_of_ble_eq_true rfl, Nat.le_of_ble_eq_true rfl⟩ ⟨by first | omega | (dsimp only; omega), by first | omega | (dsimp only; omega)⟩ (Nat.le_of_ble_eq_true rfl) dJ6_append_3_7 (fun r_1 hp => ?_)
  subst hp
  rw [← hsl]
  refine lv_iadd hx hb dJ6_append_3_10 ?_
  refine g_topi (v := nI (T.length + ((sdg v).length))) (ai_add (a := T.length) (b := ((sdg v).length)) (rfl) (rfl)) ?_
  refine lv_istore_n hx hb dJ6_append_3_11 rfl hl (by decide) rfl (fun ls hl => ?_)
  have hl : lv_has ls 4 [(3, .int (nI (T.length + ((sdg v).length)))), (2, .int (nI T.length)), (0, .ref a), (1, .int (iI v))] := hl
  refine lv_aload_n hx hb dJ6_append_3_12 rfl (lv_at hl 2 rfl) ?_
  refine lv_iload_n hx hb dJ6_append_3_13 rfl (lv_at hl 0 rfl) ?_
  refine gcU1_v (owner := RJ6) (x := yJ6_ensureCapacityInternal) rfl hCF hwm hl.1 (m_ensure l z H0 a (T.length + (sdg v).length) b cap T ⟨ml, f, hO, hB, hf, hF, hc, hc9, hT⟩ hn9 ) (lw_app (lw_list5 q255 q2425 qe1 q257 q66) (lw_meth q258)) (by decide +kernel) (hO.recv hal) hS (fun q h => by have hsz := hS.1; (try dsimp only [gfr] at h ⊢) <;> omega) ⟨Nat.le_of_ble_eq_true rfl, Nat.le_of_ble_eq_true rfl⟩ ⟨by first | omega | (dsimp only; omega), by first | omega | (dsimp only; omega)⟩ (Nat.le_of_ble_eq_true rfl) dJ6_append_3_14 (fun H_2 locs hp hex hS => ?_)
  have sz_H_2 : H0.size ≤ H_2.size := hex.1
  obtain ⟨b1, ⟨ml1, f1, hO1, hB1, hf1, hF1, hc1, hc91, hT1⟩, hb1⟩ := hp
  have hge1 := gcap_ge cap (T.length + (sdg v).length)
  have hab1 : a ≠ b1 := gA.neO2 hal hB1 hO1 (hts _ q192)
  have lt_a := hO1.lt
  have lt_b1 := hB1.lt
  refine lv_aload_n hx hb dJ6_append_3_17 rfl (lv_at hl 2 rfl) ?_
  refine gcU0_iP (owner := RJ6) (x := yJ6_isLatin1) rfl hCF hwm hl.1 (m_sbLatin l z H_2 a b1 ml1 (nI T.length) k fv hO1 (hs.cur hS) ) (lw_app (lw_list5 q289 q291 q292 q290 q66) (lw_meth q293)) (by decide +kernel) (hO1.recv hal) ⟨Nat.le_of_ble_eq_true rfl, Nat.le_of_ble_eq_true rfl⟩ ⟨by first | omega | (dsimp only; omega), by first | omega | (dsimp only; omega)⟩ (Nat.le_of_ble_eq_true rfl) dJ6_append_3_18 (fun r_4 hp => ?_)
  subst hp
  refine lv_if_eq (tgt := 37) hx hb dJ6_append_3_21 (by decide) (fun c_21 => absurd c_21 (by decide)) (fun c_21 => ?_)
  refine lv_iload_n hx hb dJ6_append_3_24 rfl (lv_at hl 3 rfl) ?_
  refine lv_iload_n hx hb dJ6_append_3_25 rfl (lv_at hl 0 rfl) ?_
  refine lv_aload_n hx hb dJ6_append_3_26 rfl (lv_at hl 2 rfl) ?_
  refine gw_get (C := RJ7) (T := TJ7) (N := 4) (v := .ref b1) hx hb hts in_J7 hown hal hO1 0 (by decide) (hts _ q354) (fun _ h9 => h9) rfl dJ6_append_3_27 ?_
  refine gcS3_i hCF hwm hl.1 (m_getCharsI l z H_2 b1 v (T.length + (sdg v).length) (gcap cap (T.length + (sdg v).length)) f1 true k h1 h2 (by omega) (by omega) (by omega) hB1 (hs.2.2.2.1.call hS (fun q h => by have hsz := hS.1; (try dsimp only [gfr] at h ⊢) <;> omega)) ) (lw_S q438 q439 q78 q440) yd_J17_getChars hS (fun q h => by have hsz := hS.1; (try dsimp only [gfr] at h ⊢) <;> omega) ⟨Nat.le_of_ble_eq_true rfl, Nat.le_of_ble_eq_true rfl⟩ ⟨by first | omega | (dsimp only; omega), by first | omega | (dsimp only; omega)⟩ (Nat.le_of_ble_eq_true rfl) dJ6_append_3_30 (fun rg H_5 locs hp hex hS => ?_)
  have sz_H_5 : H_2.size ≤ H_5.size := hex.1
  have hO1 := hO1.ex hex (by intro h; (try dsimp only [gfr] at h) <;> omega)
  obtain ⟨hrg, hB3⟩ := hp
  rw [show T.length + (sdg v).length - (nd v.natAbs + mn v) = T.length by omega] at hB3
  have lt_b1 := hB3.lt
  refine lv_pop hx hb dJ6_append_3_33 rfl ?_
  refine lv_goto (tgt := 48) hx hb dJ6_append_3_34 (by decide) ?_
  refine lv_aload_n hx hb dJ6_append_3_48 rfl (lv_at hl 2 rfl) ?_
  refine lv_iload_n hx hb dJ6_append_3_49 rfl (lv_at hl 0 rfl) ?_
  refine gw_put (C := RJ7) (T := TJ7) (N := 4) (ty := .int) (v := .int (nI (T.length + ((sdg v).length)))) hx hb hts in_J7 tyJ7 tyJ7_ok nmJ7 (hts _ q192) hown hal hO1 hS (by have hsz := hS.1; (try dsimp only [gfr]) <;> omega) 3 (by decide) (hts _ q358) (fun _ h9 => h9) rfl (by decide +kernel) (rfl) (rfl) (Nat.le_of_ble_eq_true rfl) dJ6_append_3_50 (fun H_6 locs h_new hch hS => ?_)
  have hB3 := hB3.ch hch (by omega)
  have sz_H_6 := hch.1
  clear hch
  have hO1 : gO z true RJ7 TJ7 4 H_6 a [.ref b1, .int 0, .int ml1, .int (nI (T.length + ((sdg v).length)))] := h_new
  refine lv_aload_n hx hb dJ6_append_3_53 rfl (lv_at hl 2 rfl) ?_
  refine g_aret hx hb hr hlocks (Or.inl ⟨_, rfl⟩) hS (by first | omega | (dsimp only; omega)) (by first | omega | (dsimp only; omega)) ?_ dJ6_append_3_54
  refine ⟨rfl, b1, ⟨ml1, _, by rw [List.length_append]; exact hO1, hB3, ovl_app hf1, fitB_ovl hF1 _ (sdg_c v), by rw [List.length_append]; omega, hc91, app128 hT (sdg_c v)⟩, hb1⟩
set_option maxHeartbeats 1000000 in
theorem m_appendI (l : Launch) (z : State) (H0 : Heap) (a : Nat) (v : Int) (b cap : Nat) (T : List Nat) (k : Nat → Nat) (fv : Nat → Value) (h1 : -2147483648 ≤ v) (h2 : v < 2147483648) (hg : gB z H0 a b cap T) (hn9 : gcap cap (T.length + (sdg v).length) < 1000000) (hs : sS z k fv (fun q => q = a ∨ q = b ∨ H0.size ≤ q) H0) : Met l yJ7_append_4 (ws_ yJ7_append_4 cJ7_append_4 2 (some (.object "java/lang/StringBuilder"))) { frames := 5, cells := (gcel cap (T.length + (sdg v).length)), slots := (gcst cap (T.length + (sdg v).length)), locals := 114 } (gPc z H0 [.ref a, .int (iI v)]) (gRr (fun q => q = a ∨ q = b ∨ H0.size ≤ q) H0 (fun r H1 => r = a ∧ ∃ b1, gB z H1 a b1 (gcap cap (T.length + (sdg v).length)) (T ++ sdg v) ∧ (b1 = b ∨ H0.size ≤ b1))) (gcel cap (T.length + (sdg v).length)) (gcst cap (T.length + (sdg v).length)) (fun q => q = a ∨ q = b ∨ H0.size ≤ q) := by
  refine g_start (by decide +kernel) (Nat.le_of_ble_eq_true rfl) ?_
  intro p e s m below meth c ls hx hb hr hlocks hml hown hname hts hwm hl
  have hown : s.vm.findClass "java/lang/StringBuilder" = some m.cls := hown
  have hal : z.vm.Alike s.vm := hwm.alike
  have hCF : CallFix p m c cJ7_append_4 2 s [.ref a, .int (iI v)].toArray lw_all "java/lang/StringBuilder" := ⟨hx, hb, hml, hown, hts⟩
  have hl : lv_has ls 2 [(0, .ref a), (1, .int (iI v))] := hl
  have hS : va_S (fun q => q = a ∨ q = b ∨ H0.size ≤ q) H0 H0 [] := va_S.rf
  obtain ⟨ml, f, hO, hB, hf, hF, hc, hc9, hT⟩ := hg
  have lt_a := hO.lt
  have lt_b := hB.lt
  refine lv_aload_n hx hb dJ7_append_4_0 rfl (lv_at hl 0 rfl) ?_
  refine lv_iload_n hx hb dJ7_append_4_1 rfl (lv_at hl 1 rfl) ?_
  refine gcSU1_r hCF hwm hl.1 (m_appendI6 l z H0 a v b cap T k fv h1 h2 ⟨ml, f, hO, hB, hf, hF, hc, hc9, hT⟩ hn9 hs ) (lw_app (lw_list5 q432 q2431 q249 q433 q66) (lw_meth q434)) ydu_J6_append_3 (hO.recv hal) ((w_classAt hts q192).choose_spec) hS (fun q h => by have hsz := hS.1; (try dsimp only [gfr] at h ⊢) <;> omega) ⟨Nat.le_of_ble_eq_true rfl, Nat.le_of_ble_eq_true rfl⟩ ⟨by first | omega | (dsimp only; omega), by first | omega | (dsimp only; omega)⟩ (Nat.le_of_ble_eq_true rfl) dJ7_append_4_2 (fun r_2 H_1 locs hp hex hS => ?_)
  have sz_H_1 : H0.size ≤ H_1.size := hex.1
  obtain ⟨hr0, hN⟩ := hp
  refine lv_pop hx hb dJ7_append_4_5 rfl ?_
  refine lv_aload_n hx hb dJ7_append_4_6 rfl (lv_at hl 0 rfl) ?_
  refine g_aret hx hb hr hlocks (Or.inl ⟨_, rfl⟩) hS (by first | omega | (dsimp only; omega)) (by first | omega | (dsimp only; omega)) ?_ dJ7_append_4_7
  exact ⟨rfl, hN⟩
set_option maxHeartbeats 1000000 in
theorem m_appendC6 (l : Launch) (z : State) (H0 : Heap) (a : Nat) (ch : Nat) (b cap : Nat) (T : List Nat) (k : Nat → Nat) (fv : Nat → Value) (hc128 : ch < 128) (hg : gB z H0 a b cap T) (hn9 : gcap cap (T.length + 1) < 1000000) (hs : sS z k fv (fun q => q = a ∨ q = b ∨ H0.size ≤ q) H0) : Met l yJ6_append_4 (ws_ yJ6_append_4 cJ6_append_4 2 (some (.object "java/lang/AbstractStringBuilder"))) { frames := 4, cells := (gcel cap (T.length + 1)), slots := (gcst cap (T.length + 1)), locals := 91 } (gPc z H0 [.ref a, .int (nI ch)]) (gRr (fun q => q = a ∨ q = b ∨ H0.size ≤ q) H0 (fun r H1 => r = a ∧ ∃ b1, gB z H1 a b1 (gcap cap (T.length + 1)) (T ++ [ch]) ∧ (b1 = b ∨ H0.size ≤ b1))) (gcel cap (T.length + 1)) (gcst cap (T.length + 1)) (fun q => q = a ∨ q = b ∨ H0.size ≤ q) := by
  refine g_start (by decide +kernel) (Nat.le_of_ble_eq_true rfl) ?_
  intro p e s m below meth c ls hx hb hr hlocks hml hown hname hts hwm hl
  have hown : s.vm.findClass "java/lang/AbstractStringBuilder" = some m.cls := hown
  have hal : z.vm.Alike s.vm := hwm.alike
  have hCF : CallFix p m c cJ6_append_4 2 s [.ref a, .int (nI ch)].toArray lw_all "java/lang/AbstractStringBuilder" := ⟨hx, hb, hml, hown, hts⟩
  have hl : lv_has ls 2 [(0, .ref a), (1, .int (nI ch))] := hl
  have hS : va_S (fun q => q = a ∨ q = b ∨ H0.size ≤ q) H0 H0 [] := va_S.rf
  obtain ⟨ml, f, hO, hB, hf, hF, hc, hc9, hT⟩ := hg
  have hab : a ≠ b := gA.neO2 hal hB hO (hts _ q192)
  have lt_a := hO.lt
  have lt_b := hB.lt
  refine lv_aload_n hx hb dJ6_append_4_0 rfl (lv_at hl 0 rfl) ?_
  refine lv_aload_n hx hb dJ6_append_4_1 rfl (lv_at hl 0 rfl) ?_
  refine gw_get (C := RJ7) (T := TJ7) (N := 4) (v := .int (nI T.length)) hx hb hts in_J7 hown hal hO 3 (by decide) (hts _ q358) (fun _ h9 => h9) rfl dJ6_append_4_2 ?_
  refine lv_iconst (v := 1) hx hb dJ6_append_4_5 (by decide) ?_
  refine lv_iadd hx hb dJ6_append_4_6 ?_
  refine g_topi (v := nI (T.length + 1)) (ai_add (a := T.length) (b := 1) (rfl) (rfl)) ?_
  refine gcU1_v (owner := RJ6) (x := yJ6_ensureCapacityInternal) rfl hCF hwm hl.1 (m_ensure l z H0 a (T.length + 1) b cap T ⟨ml, f, hO, hB, hf, hF, hc, hc9, hT⟩ hn9 ) (lw_app (lw_list5 q255 q2425 qe1 q257 q66) (lw_meth q258)) (by decide +kernel) (hO.recv hal) hS (fun q h => by have hsz := hS.1; (try dsimp only [gfr] at h ⊢) <;> omega) ⟨Nat.le_of_ble_eq_true rfl, Nat.le_of_ble_eq_true rfl⟩ ⟨by first | omega | (dsimp only; omega), by first | omega | (dsimp only; omega)⟩ (Nat.le_of_ble_eq_true rfl) dJ6_append_4_7 (fun H_1 locs hp hex hS => ?_)
  have sz_H_1 : H0.size ≤ H_1.size := hex.1
  obtain ⟨b1, ⟨ml1, f1, hO1, hB1, hf1, hF1, hc1, hc91, hT1⟩, hb1⟩ := hp
  have hge1 := gcap_ge cap (T.length + 1)
  have hab1 : a ≠ b1 := gA.neO2 hal hB1 hO1 (hts _ q192)
  have lt_a := hO1.lt
  have lt_b1 := hB1.lt
  refine lv_aload_n hx hb dJ6_append_4_10 rfl (lv_at hl 0 rfl) ?_
  refine gcU0_iP (owner := RJ6) (x := yJ6_isLatin1) rfl hCF hwm hl.1 (m_sbLatin l z H_1 a b1 ml1 (nI T.length) k fv hO1 (hs.cur hS) ) (lw_app (lw_list5 q289 q291 q292 q290 q66) (lw_meth q293)) (by decide +kernel) (hO1.recv hal) ⟨Nat.le_of_ble_eq_true rfl, Nat.le_of_ble_eq_true rfl⟩ ⟨by first | omega | (dsimp only; omega), by first | omega | (dsimp only; omega)⟩ (Nat.le_of_ble_eq_true rfl) dJ6_append_4_11 (fun r_3 hp => ?_)
  subst hp
  refine lv_if_eq (tgt := 45) hx hb dJ6_append_4_14 (by decide) (fun c_14 => absurd c_14 (by decide)) (fun c_14 => ?_)
  refine lv_iload_n hx hb dJ6_append_4_17 rfl (lv_at hl 1 rfl) ?_
  refine gcS1_iP hCF hwm hl.1 (m_canEncC l z H_1  ch hc128 ) (lw_S q909 q910 q76 q911) yd_J15_canEncode_2 ⟨Nat.le_of_ble_eq_true rfl, Nat.le_of_ble_eq_true rfl⟩ ⟨by first | omega | (dsimp only; omega), by first | omega | (dsimp only; omega)⟩ (Nat.le_of_ble_eq_true rfl) dJ6_append_4_18 (fun r_4 hp => ?_)
  subst hp
  refine lv_if_eq (tgt := 45) hx hb dJ6_append_4_21 (by decide) (fun c_21 => absurd c_21 (by decide)) (fun c_21 => ?_)
  refine lv_aload_n hx hb dJ6_append_4_24 rfl (lv_at hl 0 rfl) ?_
  refine gw_get (C := RJ7) (T := TJ7) (N := 4) (v := .ref b1) hx hb hts in_J7 hown hal hO1 0 (by decide) (hts _ q354) (fun _ h9 => h9) rfl dJ6_append_4_25 ?_
  refine lv_aload_n hx hb dJ6_append_4_28 rfl (lv_at hl 0 rfl) ?_
  refine lv_dup hx hb dJ6_append_4_29 rfl ?_
  refine gw_get (C := RJ7) (T := TJ7) (N := 4) (v := .int (nI T.length)) hx hb hts in_J7 hown hal hO1 3 (by decide) (hts _ q358) (fun _ h9 => h9) rfl dJ6_append_4_30 ?_
  refine lv_dup_x1 hx hb dJ6_append_4_33 rfl rfl ?_
  refine lv_iconst (v := 1) hx hb dJ6_append_4_34 (by decide) ?_
  refine lv_iadd hx hb dJ6_append_4_35 ?_
  refine g_topi (v := nI (T.length + 1)) (ai_add (a := T.length) (b := 1) (rfl) (rfl)) ?_
  refine gw_put (C := RJ7) (T := TJ7) (N := 4) (ty := .int) (v := .int (nI (T.length + 1))) hx hb hts in_J7 tyJ7 tyJ7_ok nmJ7 (hts _ q192) hown hal hO1 hS (by have hsz := hS.1; (try dsimp only [gfr]) <;> omega) 3 (by decide) (hts _ q358) (fun _ h9 => h9) rfl (by decide +kernel) (rfl) (rfl) (Nat.le_of_ble_eq_true rfl) dJ6_append_4_36 (fun H_5 locs h_new hch hS => ?_)
  have hB1 := hB1.ch hch (by omega)
  have sz_H_5 := hch.1
  clear hch
  have hO1 : gO z true RJ7 TJ7 4 H_5 a [.ref b1, .int 0, .int ml1, .int (nI (T.length + 1))] := h_new
  refine lv_iload_n hx hb dJ6_append_4_39 rfl (lv_at hl 1 rfl) ?_
  refine lv_i2b hx hb dJ6_append_4_40 rfl ?_
  refine g_topi (v := nI ch) (ai_i2b (rfl) (by omega)) ?_
  refine gw_bast (f := f1) hx hb hal hB1 hS (by have hsz := hS.1; (try dsimp only [gfr]) <;> omega) T.length (rfl) (by omega) (by omega) dJ6_append_4_41 (fun H_6 locs h_new hch hS => ?_)
  have hO1 := hO1.ch hch (by omega)
  have sz_H_6 := hch.1
  clear hch
  have hB1 : gI z true .byte H_6 b1 (gcap cap (T.length + 1)) (upd f1 T.length (((nI ch)).toInt8.toInt32)) := h_new
  refine lv_goto (tgt := 75) hx hb dJ6_append_4_42 (by decide) ?_
  refine lv_aload_n hx hb dJ6_append_4_75 rfl (lv_at hl 0 rfl) ?_
  refine g_aret hx hb hr hlocks (Or.inl ⟨_, rfl⟩) hS (by first | omega | (dsimp only; omega)) (by first | omega | (dsimp only; omega)) ?_ dJ6_append_4_76
  rw [upd_ovl1 _ _ _ hc128] at hB1
  refine ⟨rfl, b1, ⟨ml1, _, by rw [List.length_append]; exact hO1, hB1, ovl_app hf1, fitB_ovl hF1 _ (by simp; exact hc128), by rw [List.length_append]; show _ + 1 ≤ _; omega, hc91, app128 hT (by simp; exact hc128)⟩, hb1⟩
set_option maxHeartbeats 1000000 in
theorem m_appendC (l : Launch) (z : State) (H0 : Heap) (a : Nat) (ch : Nat) (b cap : Nat) (T : List Nat) (k : Nat → Nat) (fv : Nat → Value) (hc128 : ch < 128) (hg : gB z H0 a b cap T) (hn9 : gcap cap (T.length + 1) < 1000000) (hs : sS z k fv (fun q => q = a ∨ q = b ∨ H0.size ≤ q) H0) : Met l yJ7_append_6 (ws_ yJ7_append_6 cJ7_append_6 2 (some (.object "java/lang/StringBuilder"))) { frames := 5, cells := (gcel cap (T.length + 1)), slots := (gcst cap (T.length + 1)), locals := 112 } (gPc z H0 [.ref a, .int (nI ch)]) (gRr (fun q => q = a ∨ q = b ∨ H0.size ≤ q) H0 (fun r H1 => r = a ∧ ∃ b1, gB z H1 a b1 (gcap cap (T.length + 1)) (T ++ [ch]) ∧ (b1 = b ∨ H0.size ≤ b1))) (gcel cap (T.length + 1)) (gcst cap (T.length + 1)) (fun q => q = a ∨ q = b ∨ H0.size ≤ q) := by
  refine g_start (by decide +kernel) (Nat.le_of_ble_eq_true rfl) ?_
  intro p e s m below meth c ls hx hb hr hlocks hml hown hname hts hwm hl
  have hown : s.vm.findClass "java/lang/StringBuilder" = some m.cls := hown
  have hal : z.vm.Alike s.vm := hwm.alike
  have hCF : CallFix p m c cJ7_append_6 2 s [.ref a, .int (nI ch)].toArray lw_all "java/lang/StringBuilder" := ⟨hx, hb, hml, hown, hts⟩
  have hl : lv_has ls 2 [(0, .ref a), (1, .int (nI ch))] := hl
  have hS : va_S (fun q => q = a ∨ q = b ∨ H0.size ≤ q) H0 H0 [] := va_S.rf
  obtain ⟨ml, f, hO, hB, hf, hF, hc, hc9, hT⟩ := hg
  have lt_a := hO.lt
  have lt_b := hB.lt
  refine lv_aload_n hx hb dJ7_append_6_0 rfl (lv_at hl 0 rfl) ?_
  refine lv_iload_n hx hb dJ7_append_6_1 rfl (lv_at hl 1 rfl) ?_
  refine gcSU1_r hCF hwm hl.1 (m_appendC6 l z H0 a ch b cap T k fv hc128 ⟨ml, f, hO, hB, hf, hF, hc, hc9, hT⟩ hn9 hs ) (lw_app (lw_list5 q906 q2434 q249 q907 q66) (lw_meth q908)) ydu_J6_append_4 (hO.recv hal) ((w_classAt hts q192).choose_spec) hS (fun q h => by have hsz := hS.1; (try dsimp only [gfr] at h ⊢) <;> omega) ⟨Nat.le_of_ble_eq_true rfl, Nat.le_of_ble_eq_true rfl⟩ ⟨by first | omega | (dsimp only; omega), by first | omega | (dsimp only; omega)⟩ (Nat.le_of_ble_eq_true rfl) dJ7_append_6_2 (fun r_2 H_1 locs hp hex hS => ?_)
  have sz_H_1 : H0.size ≤ H_1.size := hex.1
  obtain ⟨hr0, hN⟩ := hp
  refine lv_pop hx hb dJ7_append_6_5 rfl ?_
  refine lv_aload_n hx hb dJ7_append_6_6 rfl (lv_at hl 0 rfl) ?_
  refine g_aret hx hb hr hlocks (Or.inl ⟨_, rfl⟩) hS (by first | omega | (dsimp only; omega)) (by first | omega | (dsimp only; omega)) ?_ dJ7_append_6_7
  exact ⟨rfl, hN⟩
