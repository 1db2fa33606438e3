/-! ## walks (written by tools) -/
set_option maxRecDepth 100000
def dkwJ12_getExponent_0 : List UInt8 := [38, 184, 0, 79, 20, 0, 87, 127, 16, 52, 123, 20, 1, 66, 101, 136, 172]
abbrev dktJ12_getExponent_0 : List UInt8 := dkwJ12_getExponent_0 ++ []
theorem dksJ12_getExponent_0 : cJ12_getExponent.data.toList.drop 0 = dktJ12_getExponent_0 := by decide +kernel
theorem dJ12_getExponent_0 : decode cJ12_getExponent 0 = .ok (.dload_n 0, 1) := dk_38 (dk_at dksJ12_getExponent_0 0 rfl rfl)
theorem dJ12_getExponent_1 : decode cJ12_getExponent 1 = .ok (.invokestatic 79, 3) := dk_184 0 79 (dk_at dksJ12_getExponent_0 1 rfl rfl)
theorem dJ12_getExponent_4 : decode cJ12_getExponent 4 = .ok (.ldc2_w 87, 3) := dk_20 0 87 (dk_at dksJ12_getExponent_0 4 rfl rfl)
theorem dJ12_getExponent_7 : decode cJ12_getExponent 7 = .ok (.land, 1) := dk_127 (dk_at dksJ12_getExponent_0 7 rfl rfl)
theorem dJ12_getExponent_8 : decode cJ12_getExponent 8 = .ok (.bipush 52, 2) := dk_16 52 (dk_at dksJ12_getExponent_0 8 rfl rfl)
theorem dJ12_getExponent_10 : decode cJ12_getExponent 10 = .ok (.lshr, 1) := dk_123 (dk_at dksJ12_getExponent_0 10 rfl rfl)
theorem dJ12_getExponent_11 : decode cJ12_getExponent 11 = .ok (.ldc2_w 322, 3) := dk_20 1 66 (dk_at dksJ12_getExponent_0 11 rfl rfl)
theorem dJ12_getExponent_14 : decode cJ12_getExponent 14 = .ok (.lsub, 1) := dk_101 (dk_at dksJ12_getExponent_0 14 rfl rfl)
theorem dJ12_getExponent_15 : decode cJ12_getExponent 15 = .ok (.l2i, 1) := dk_136 (dk_at dksJ12_getExponent_0 15 rfl rfl)
theorem dJ12_getExponent_16 : decode cJ12_getExponent 16 = .ok (.ireturn, 1) := dk_172 (dk_at dksJ12_getExponent_0 16 rfl rfl)
def dkwJ12_max_0 : List UInt8 := [26, 27, 161, 0, 7, 26, 167, 0, 4, 27, 172]
abbrev dktJ12_max_0 : List UInt8 := dkwJ12_max_0 ++ []
theorem dksJ12_max_0 : cJ12_max.data.toList.drop 0 = dktJ12_max_0 := by decide +kernel
theorem dJ12_max_0 : decode cJ12_max 0 = .ok (.iload_n 0, 1) := dk_26 (dk_at dksJ12_max_0 0 rfl rfl)
theorem dJ12_max_1 : decode cJ12_max 1 = .ok (.iload_n 1, 1) := dk_27 (dk_at dksJ12_max_0 1 rfl rfl)
theorem dJ12_max_2 : decode cJ12_max 2 = .ok (.if_icmp .lt 7, 3) := dk_161 0 7 (dk_at dksJ12_max_0 2 rfl rfl)
theorem dJ12_max_5 : decode cJ12_max 5 = .ok (.iload_n 0, 1) := dk_26 (dk_at dksJ12_max_0 5 rfl rfl)
theorem dJ12_max_6 : decode cJ12_max 6 = .ok (.goto 4, 3) := dk_167 0 4 (dk_at dksJ12_max_0 6 rfl rfl)
theorem dJ12_max_9 : decode cJ12_max 9 = .ok (.iload_n 1, 1) := dk_27 (dk_at dksJ12_max_0 9 rfl rfl)
theorem dJ12_max_10 : decode cJ12_max 10 = .ok (.ireturn, 1) := dk_172 (dk_at dksJ12_max_0 10 rfl rfl)
def dkwJ12_min_0 : List UInt8 := [26, 27, 163, 0, 7, 26, 167, 0, 4, 27, 172]
abbrev dktJ12_min_0 : List UInt8 := dkwJ12_min_0 ++ []
theorem dksJ12_min_0 : cJ12_min.data.toList.drop 0 = dktJ12_min_0 := by decide +kernel
theorem dJ12_min_0 : decode cJ12_min 0 = .ok (.iload_n 0, 1) := dk_26 (dk_at dksJ12_min_0 0 rfl rfl)
theorem dJ12_min_1 : decode cJ12_min 1 = .ok (.iload_n 1, 1) := dk_27 (dk_at dksJ12_min_0 1 rfl rfl)
theorem dJ12_min_2 : decode cJ12_min 2 = .ok (.if_icmp .gt 7, 3) := dk_163 0 7 (dk_at dksJ12_min_0 2 rfl rfl)
theorem dJ12_min_5 : decode cJ12_min 5 = .ok (.iload_n 0, 1) := dk_26 (dk_at dksJ12_min_0 5 rfl rfl)
theorem dJ12_min_6 : decode cJ12_min 6 = .ok (.goto 4, 3) := dk_167 0 4 (dk_at dksJ12_min_0 6 rfl rfl)
theorem dJ12_min_9 : decode cJ12_min 9 = .ok (.iload_n 1, 1) := dk_27 (dk_at dksJ12_min_0 9 rfl rfl)
theorem dJ12_min_10 : decode cJ12_min 10 = .ok (.ireturn, 1) := dk_172 (dk_at dksJ12_min_0 10 rfl rfl)
def dkwJ12_max_2_0 : List UInt8 := [30, 32, 148, 155, 0, 7, 30, 167, 0, 4, 32, 173]
abbrev dktJ12_max_2_0 : List UInt8 := dkwJ12_max_2_0 ++ []
theorem dksJ12_max_2_0 : cJ12_max_2.data.toList.drop 0 = dktJ12_max_2_0 := by decide +kernel
theorem dJ12_max_2_0 : decode cJ12_max_2 0 = .ok (.lload_n 0, 1) := dk_30 (dk_at dksJ12_max_2_0 0 rfl rfl)
theorem dJ12_max_2_1 : decode cJ12_max_2 1 = .ok (.lload_n 2, 1) := dk_32 (dk_at dksJ12_max_2_0 1 rfl rfl)
theorem dJ12_max_2_2 : decode cJ12_max_2 2 = .ok (.lcmp, 1) := dk_148 (dk_at dksJ12_max_2_0 2 rfl rfl)
theorem dJ12_max_2_3 : decode cJ12_max_2 3 = .ok (.ifCond .lt 7, 3) := dk_155 0 7 (dk_at dksJ12_max_2_0 3 rfl rfl)
theorem dJ12_max_2_6 : decode cJ12_max_2 6 = .ok (.lload_n 0, 1) := dk_30 (dk_at dksJ12_max_2_0 6 rfl rfl)
theorem dJ12_max_2_7 : decode cJ12_max_2 7 = .ok (.goto 4, 3) := dk_167 0 4 (dk_at dksJ12_max_2_0 7 rfl rfl)
theorem dJ12_max_2_10 : decode cJ12_max_2 10 = .ok (.lload_n 2, 1) := dk_32 (dk_at dksJ12_max_2_0 10 rfl rfl)
theorem dJ12_max_2_11 : decode cJ12_max_2 11 = .ok (.lreturn, 1) := dk_173 (dk_at dksJ12_max_2_0 11 rfl rfl)
def dkwJ12_min_2_0 : List UInt8 := [30, 32, 148, 157, 0, 7, 30, 167, 0, 4, 32, 173]
abbrev dktJ12_min_2_0 : List UInt8 := dkwJ12_min_2_0 ++ []
theorem dksJ12_min_2_0 : cJ12_min_2.data.toList.drop 0 = dktJ12_min_2_0 := by decide +kernel
theorem dJ12_min_2_0 : decode cJ12_min_2 0 = .ok (.lload_n 0, 1) := dk_30 (dk_at dksJ12_min_2_0 0 rfl rfl)
theorem dJ12_min_2_1 : decode cJ12_min_2 1 = .ok (.lload_n 2, 1) := dk_32 (dk_at dksJ12_min_2_0 1 rfl rfl)
theorem dJ12_min_2_2 : decode cJ12_min_2 2 = .ok (.lcmp, 1) := dk_148 (dk_at dksJ12_min_2_0 2 rfl rfl)
theorem dJ12_min_2_3 : decode cJ12_min_2 3 = .ok (.ifCond .gt 7, 3) := dk_157 0 7 (dk_at dksJ12_min_2_0 3 rfl rfl)
theorem dJ12_min_2_6 : decode cJ12_min_2 6 = .ok (.lload_n 0, 1) := dk_30 (dk_at dksJ12_min_2_0 6 rfl rfl)
theorem dJ12_min_2_7 : decode cJ12_min_2 7 = .ok (.goto 4, 3) := dk_167 0 4 (dk_at dksJ12_min_2_0 7 rfl rfl)
theorem dJ12_min_2_10 : decode cJ12_min_2 10 = .ok (.lload_n 2, 1) := dk_32 (dk_at dksJ12_min_2_0 10 rfl rfl)
theorem dJ12_min_2_11 : decode cJ12_min_2 11 = .ok (.lreturn, 1) := dk_173 (dk_at dksJ12_min_2_0 11 rfl rfl)
def dkwJ17_signum_0 : List UInt8 := [26, 16, 31, 122, 26, 116, 16, 31, 124, 128, 172]
abbrev dktJ17_signum_0 : List UInt8 := dkwJ17_signum_0 ++ []
theorem dksJ17_signum_0 : cJ17_signum.data.toList.drop 0 = dktJ17_signum_0 := by decide +kernel
theorem dJ17_signum_0 : decode cJ17_signum 0 = .ok (.iload_n 0, 1) := dk_26 (dk_at dksJ17_signum_0 0 rfl rfl)
theorem dJ17_signum_1 : decode cJ17_signum 1 = .ok (.bipush 31, 2) := dk_16 31 (dk_at dksJ17_signum_0 1 rfl rfl)
theorem dJ17_signum_3 : decode cJ17_signum 3 = .ok (.ishr, 1) := dk_122 (dk_at dksJ17_signum_0 3 rfl rfl)
theorem dJ17_signum_4 : decode cJ17_signum 4 = .ok (.iload_n 0, 1) := dk_26 (dk_at dksJ17_signum_0 4 rfl rfl)
theorem dJ17_signum_5 : decode cJ17_signum 5 = .ok (.ineg, 1) := dk_116 (dk_at dksJ17_signum_0 5 rfl rfl)
theorem dJ17_signum_6 : decode cJ17_signum 6 = .ok (.bipush 31, 2) := dk_16 31 (dk_at dksJ17_signum_0 6 rfl rfl)
theorem dJ17_signum_8 : decode cJ17_signum 8 = .ok (.iushr, 1) := dk_124 (dk_at dksJ17_signum_0 8 rfl rfl)
theorem dJ17_signum_9 : decode cJ17_signum 9 = .ok (.ior, 1) := dk_128 (dk_at dksJ17_signum_0 9 rfl rfl)
theorem dJ17_signum_10 : decode cJ17_signum 10 = .ok (.ireturn, 1) := dk_172 (dk_at dksJ17_signum_0 10 rfl rfl)
def dkwJ9_compare_2 : List UInt8 := [156, 0, 7, 2, 167, 0, 4, 4, 172]
abbrev dktJ9_compare_2 : List UInt8 := dkwJ9_compare_2 ++ []
def dkwJ9_compare_1 : List UInt8 := [184, 0, 46, 55, 6, 22, 4, 22, 6, 148, 154, 0, 7, 3, 167, 0, 16, 22, 4, 22, 6, 148]
abbrev dktJ9_compare_1 : List UInt8 := dkwJ9_compare_1 ++ dktJ9_compare_2
def dkwJ9_compare_0 : List UInt8 := [38, 40, 152, 156, 0, 5, 2, 172, 38, 40, 151, 158, 0, 5, 4, 172, 38, 184, 0, 46, 55, 4, 40]
abbrev dktJ9_compare_0 : List UInt8 := dkwJ9_compare_0 ++ dktJ9_compare_1
theorem dksJ9_compare_0 : cJ9_compare.data.toList.drop 0 = dktJ9_compare_0 := by decide +kernel
theorem dksJ9_compare_1 : cJ9_compare.data.toList.drop 23 = dktJ9_compare_1 := dk_seg dksJ9_compare_0 23 rfl rfl
theorem dksJ9_compare_2 : cJ9_compare.data.toList.drop 45 = dktJ9_compare_2 := dk_seg dksJ9_compare_1 22 rfl rfl
theorem dJ9_compare_0 : decode cJ9_compare 0 = .ok (.dload_n 0, 1) := dk_38 (dk_at dksJ9_compare_0 0 rfl rfl)
theorem dJ9_compare_1 : decode cJ9_compare 1 = .ok (.dload_n 2, 1) := dk_40 (dk_at dksJ9_compare_0 1 rfl rfl)
theorem dJ9_compare_2 : decode cJ9_compare 2 = .ok (.dcmp .g, 1) := dk_152 (dk_at dksJ9_compare_0 2 rfl rfl)
theorem dJ9_compare_3 : decode cJ9_compare 3 = .ok (.ifCond .ge 5, 3) := dk_156 0 5 (dk_at dksJ9_compare_0 3 rfl rfl)
theorem dJ9_compare_6 : decode cJ9_compare 6 = .ok (.iconst (-1), 1) := dk_2 (dk_at dksJ9_compare_0 6 rfl rfl)
theorem dJ9_compare_7 : decode cJ9_compare 7 = .ok (.ireturn, 1) := dk_172 (dk_at dksJ9_compare_0 7 rfl rfl)
theorem dJ9_compare_8 : decode cJ9_compare 8 = .ok (.dload_n 0, 1) := dk_38 (dk_at dksJ9_compare_0 8 rfl rfl)
theorem dJ9_compare_9 : decode cJ9_compare 9 = .ok (.dload_n 2, 1) := dk_40 (dk_at dksJ9_compare_0 9 rfl rfl)
theorem dJ9_compare_10 : decode cJ9_compare 10 = .ok (.dcmp .l, 1) := dk_151 (dk_at dksJ9_compare_0 10 rfl rfl)
theorem dJ9_compare_11 : decode cJ9_compare 11 = .ok (.ifCond .le 5, 3) := dk_158 0 5 (dk_at dksJ9_compare_0 11 rfl rfl)
theorem dJ9_compare_14 : decode cJ9_compare 14 = .ok (.iconst 1, 1) := dk_4 (dk_at dksJ9_compare_0 14 rfl rfl)
theorem dJ9_compare_15 : decode cJ9_compare 15 = .ok (.ireturn, 1) := dk_172 (dk_at dksJ9_compare_0 15 rfl rfl)
theorem dJ9_compare_16 : decode cJ9_compare 16 = .ok (.dload_n 0, 1) := dk_38 (dk_at dksJ9_compare_0 16 rfl rfl)
theorem dJ9_compare_17 : decode cJ9_compare 17 = .ok (.invokestatic 46, 3) := dk_184 0 46 (dk_at dksJ9_compare_0 17 rfl rfl)
theorem dJ9_compare_20 : decode cJ9_compare 20 = .ok (.lstore 4, 2) := dk_55 4 (dk_at dksJ9_compare_0 20 rfl rfl)
theorem dJ9_compare_22 : decode cJ9_compare 22 = .ok (.dload_n 2, 1) := dk_40 (dk_at dksJ9_compare_0 22 rfl rfl)
theorem dJ9_compare_23 : decode cJ9_compare 23 = .ok (.invokestatic 46, 3) := dk_184 0 46 (dk_at dksJ9_compare_1 0 rfl rfl)
theorem dJ9_compare_26 : decode cJ9_compare 26 = .ok (.lstore 6, 2) := dk_55 6 (dk_at dksJ9_compare_1 3 rfl rfl)
theorem dJ9_compare_28 : decode cJ9_compare 28 = .ok (.lload 4, 2) := dk_22 4 (dk_at dksJ9_compare_1 5 rfl rfl)
theorem dJ9_compare_30 : decode cJ9_compare 30 = .ok (.lload 6, 2) := dk_22 6 (dk_at dksJ9_compare_1 7 rfl rfl)
theorem dJ9_compare_32 : decode cJ9_compare 32 = .ok (.lcmp, 1) := dk_148 (dk_at dksJ9_compare_1 9 rfl rfl)
theorem dJ9_compare_33 : decode cJ9_compare 33 = .ok (.ifCond .ne 7, 3) := dk_154 0 7 (dk_at dksJ9_compare_1 10 rfl rfl)
theorem dJ9_compare_36 : decode cJ9_compare 36 = .ok (.iconst 0, 1) := dk_3 (dk_at dksJ9_compare_1 13 rfl rfl)
theorem dJ9_compare_37 : decode cJ9_compare 37 = .ok (.goto 16, 3) := dk_167 0 16 (dk_at dksJ9_compare_1 14 rfl rfl)
theorem dJ9_compare_40 : decode cJ9_compare 40 = .ok (.lload 4, 2) := dk_22 4 (dk_at dksJ9_compare_1 17 rfl rfl)
theorem dJ9_compare_42 : decode cJ9_compare 42 = .ok (.lload 6, 2) := dk_22 6 (dk_at dksJ9_compare_1 19 rfl rfl)
theorem dJ9_compare_44 : decode cJ9_compare 44 = .ok (.lcmp, 1) := dk_148 (dk_at dksJ9_compare_1 21 rfl rfl)
theorem dJ9_compare_45 : decode cJ9_compare 45 = .ok (.ifCond .ge 7, 3) := dk_156 0 7 (dk_at dksJ9_compare_2 0 rfl rfl)
theorem dJ9_compare_48 : decode cJ9_compare 48 = .ok (.iconst (-1), 1) := dk_2 (dk_at dksJ9_compare_2 3 rfl rfl)
theorem dJ9_compare_49 : decode cJ9_compare 49 = .ok (.goto 4, 3) := dk_167 0 4 (dk_at dksJ9_compare_2 4 rfl rfl)
theorem dJ9_compare_52 : decode cJ9_compare 52 = .ok (.iconst 1, 1) := dk_4 (dk_at dksJ9_compare_2 7 rfl rfl)
theorem dJ9_compare_53 : decode cJ9_compare 53 = .ok (.ireturn, 1) := dk_172 (dk_at dksJ9_compare_2 8 rfl rfl)
theorem n64 {x : UInt64} (h : dNum x) : vf_n64 x := by
  unfold vf_n64
  rw [UInt64.le_iff_toNat_le, UInt64.toNat_and]
  show x.toNat &&& 2 ^ 63 - 1 ≤ 9218868437227405312
  rw [Nat.and_two_pow_sub_one_eq_mod]
  exact h
theorem bits_num {x : UInt64} {s : Bool} {n : Nat} (h : x.toNat = s.toNat * 9223372036854775808 + n) (hn : n ≤ 9218868437227405312) : dS x = s ∧ dP x = n := by
  unfold dS dP
  rw [h]
  cases s <;> simp <;> omega
theorem dadd_num {x y : UInt64} (hx : dFin x) (hy : dFin y) : dNum (FP.dadd x y) := by
  have h := (bits_num (dadd_nat hx hy) (rB_le _ _)).2
  unfold dNum
  rw [h]
  exact rB_le _ _
theorem dsub_num {x y : UInt64} (hx : dFin x) (hy : dFin y) : dNum (FP.dsub x y) := by
  have h := (bits_num (dsub_nat hx hy) (rB_le _ _)).2
  unfold dNum
  rw [h]
  exact rB_le _ _
/-- a zero gets the sign + -/
def dPz (x : UInt64) : UInt64 := if x.toNat = 9223372036854775808 then 0 else x
theorem fin0 : dFin FP.dconst0 := by unfold dFin; decide
theorem dU_0 {x : UInt64} : dU x = 0 ↔ dP x = 0 := by
  rw [dU_uB]
  constructor
  · intro h
    rcases Nat.eq_zero_or_pos (dP x) with q | q
    · exact q
    · have := uB_lt q; rw [uB_0] at this; omega
  · intro h; rw [h, uB_0]
theorem dadd_z {x : UInt64} (hx : dFin x) : FP.dadd x FP.dconst0 = dPz x := by
  have h := bits_num (dadd_nat hx fin0) (rB_le _ _)
  have z0 : dZ FP.dconst0 = 0 := by decide
  have s0 : dS FP.dconst0 = false := by decide
  rw [z0, s0, Int.add_zero] at h
  have hp : (dZ x).natAbs = uB (dP x) := by
    unfold dZ
    rw [dU_uB]
    cases dS x <;> simp
  rw [hp, rB_uB hx] at h
  have hz : dZ x = 0 ↔ dP x = 0 := by
    rw [← dU_0]
    unfold dZ
    cases dS x <;> simp
  have ht := d_toNat x
  have hU := dU_0 (x := x)
  unfold dPz
  split
  · rename_i e
    have p0 : dP x = 0 := by unfold dP; rw [e]
    refine d_ext ?_ ?_
    · rw [h.1]; unfold FP.Core.sumSign; rw [if_pos (hz.mpr p0)]; simp; rfl
    · rw [h.2, p0]; rfl
  · rename_i e
    refine d_ext ?_ h.2
    rw [h.1]
    unfold FP.Core.sumSign
    by_cases p0 : dP x = 0
    · rw [if_pos (hz.mpr p0)]
      cases hs : dS x
      · rfl
      · rw [hs, p0] at ht; simp at ht; exact absurd ht e
    · rw [if_neg (fun q => p0 (hz.mp q))]
      unfold dZ
      have : 0 < dU x := Nat.pos_of_ne_zero (fun q => p0 (hU.mp q))
      cases dS x <;> simp <;> omega
theorem dI_toInt (x : UInt64) : x.toInt64.toInt = if dS x then (dP x : Int) - 9223372036854775808 else (dP x : Int) := by
  have h := x.toNat_lt
  rw [d_lN, lN_ti h, d_toNat x]
  have := dP_lt x
  cases dS x <;> simp <;> omega
theorem i64_eq {a : Int64} {n : Nat} (h : n < 2 ^ 64) (e : a.toInt = if n < 9223372036854775808 then (n : Int) else (n : Int) - 18446744073709551616) : a = lN n := by
  apply Int64.toInt_inj.mp
  rw [e, lN_ti h]
  rfl
theorem up_pos {x : UInt64} (hx : dFin x) (h : ¬ lg_cmp (dPz x).toInt64 0 < 0) : (dPz x).toInt64 + 1 = lN (dUp x).toNat := by
  have h0 := dUp_toNat hx
  have hl := x.toNat_lt
  have h1 : ¬ (dPz x).toInt64.toInt < 0 := fun q => h (lc_lt.mpr (by simpa using q))
  have hx' : x.toNat % 9223372036854775808 < 9218868437227405312 := hx
  refine i64_eq (UInt64.toNat_lt _) ?_
  rw [Int64.toInt_add, dI_toInt] at *
  rw [h0]
  unfold dPz at *
  have ht := d_toNat x
  have hp := dP_lt x
  unfold dFin at hx
  by_cases e : x.toNat = 9223372036854775808
  · simp only [if_pos e] at *
    decide
  · simp only [if_neg e] at *
    cases hs : dS x
    · rw [hs] at ht h1
      simp at ht h1
      simp only [Bool.false_eq_true, if_false]
      have e2 : x.toNat < 9223372036854775808 := by omega
      rw [if_pos e2, if_pos (by omega)]
      rw [show (1 : Int64).toInt = 1 from by decide, Int.bmod_eq_of_le (by omega) (by omega)]
      omega
    · rw [hs] at ht h1
      simp at ht h1
      omega
theorem up_neg {x : UInt64} (hx : dFin x) (h : lg_cmp (dPz x).toInt64 0 < 0) : (dPz x).toInt64 + (-1) = lN (dUp x).toNat := by
  have h0 := dUp_toNat hx
  have hl := x.toNat_lt
  have h1 : (dPz x).toInt64.toInt < 0 := by have := lc_lt.mp h; simpa using this
  have hx' : x.toNat % 9223372036854775808 < 9218868437227405312 := hx
  refine i64_eq (UInt64.toNat_lt _) ?_
  rw [Int64.toInt_add, dI_toInt] at *
  rw [h0]
  unfold dPz at *
  have ht := d_toNat x
  have hp := dP_lt x
  unfold dFin at hx
  by_cases e : x.toNat = 9223372036854775808
  · simp only [if_pos e] at h1
    exact absurd h1 (by decide)
  · simp only [if_neg e] at *
    cases hs : dS x
    · rw [hs] at ht h1
      simp at ht h1
      omega
    · rw [hs] at ht h1
      simp at ht h1
      simp only [if_true]
      have e2 : ¬ x.toNat < 9223372036854775808 := by omega
      rw [if_neg e2, if_neg (by omega)]
      rw [show ((-1 : Int64)).toInt = -1 from by decide, Int.bmod_eq_of_le (by omega) (by omega)]
      omega
theorem dn_pos {x : UInt64} (hx : dFin x) (h : 0 < dK x) : x.toInt64 + (-1) = lN (dDown x).toNat := by
  have h0 := dDown_toNat hx
  have hl := x.toNat_lt
  refine i64_eq (UInt64.toNat_lt _) ?_
  have hx' : x.toNat % 9223372036854775808 < 9218868437227405312 := hx
  rw [dK_nat] at h
  rw [Int64.toInt_add, dI_toInt, h0]
  have ht := d_toNat x
  cases hs : dS x
  · rw [hs] at ht
    simp at ht
    have hp := dP_lt x
    have e2 : x.toNat < 9223372036854775808 := by omega
    rw [if_neg (by omega)] at h
    have e3 : ¬ (x.toNat = 0 ∨ x.toNat = 9223372036854775808) := by omega
    simp only [Bool.false_eq_true, if_false]
    rw [if_neg e3, if_pos e2, if_pos (by omega)]
    rw [show ((-1 : Int64)).toInt = -1 from by decide]
    rw [Int.bmod_eq_of_le (by omega) (by omega)]
    omega
  · rw [hs] at ht
    simp at ht
    rw [if_pos (by omega)] at h
    omega
theorem dn_neg {x : UInt64} (hx : dFin x) (h : dK x < 0) : x.toInt64 + 1 = lN (dDown x).toNat := by
  have h0 := dDown_toNat hx
  have hl := x.toNat_lt
  refine i64_eq (UInt64.toNat_lt _) ?_
  have hx' : x.toNat % 9223372036854775808 < 9218868437227405312 := hx
  rw [dK_nat] at h
  rw [Int64.toInt_add, dI_toInt, h0]
  have ht := d_toNat x
  cases hs : dS x
  · rw [hs] at ht
    simp at ht
    rw [if_neg (by have := dP_lt x; omega)] at h
    omega
  · rw [hs] at ht
    simp at ht
    have hp := dP_lt x
    rw [if_pos (by omega)] at h
    have e2 : ¬ x.toNat < 9223372036854775808 := by omega
    have e3 : ¬ (x.toNat = 0 ∨ x.toNat = 9223372036854775808) := by omega
    simp only [if_true]
    rw [if_neg e3, if_neg e2, if_neg (by omega)]
    rw [show ((1 : Int64)).toInt = 1 from by decide]
    rw [Int.bmod_eq_of_le (by omega) (by omega)]
    omega
theorem dn_zero {x : UInt64} (h : dK x = 0) : (9223372036854775809 : UInt64) = dDown x := by
  have hl := x.toNat_lt
  rw [dK_nat] at h
  unfold dDown
  rw [if_pos (by split at h <;> omega)]
theorem u_back (x : UInt64) : (lN x.toNat).toUInt64 = x := by
  rw [lN_u x.toNat_lt]
  simp
theorem fin_inf {x : UInt64} (hx : dFin x) : ¬ 0 ≤ cK x 9218868437227405312 := by
  rw [cK_ge]
  have h : dK 9218868437227405312 = 9218868437227405312 := by decide
  rw [h]
  have := dK_abs x
  unfold dFin at hx
  omega
theorem fin_ninf {x : UInt64} (hx : dFin x) : ¬ cK x 18442240474082181120 = 0 := by
  rw [cK_eq]
  have h : dK 18442240474082181120 = -9218868437227405312 := by decide
  rw [h]
  have := dK_abs x
  unfold dFin at hx
  omega
theorem numInf : dNum 9218868437227405312 := by unfold dNum; decide
theorem numNInf : dNum 18442240474082181120 := by unfold dNum; decide
theorem num0 : dNum FP.dconst0 := by unfold dNum; decide
theorem numMax : dNum 9218868437227405311 := by unfold dNum; decide
theorem dK0 : dK FP.dconst0 = 0 := by decide
/-- Math.nextAfter -/
def dTo (x y : UInt64) : UInt64 := if dK y < dK x then dDown x else if dK x < dK y then dUp x else y
/-- Double.compare -/
def dOrd (x y : UInt64) : Int32 := if dK x < dK y then -1 else if dK y < dK x then 1 else if x = y then 0 else if dS x then -1 else 1
/-- 2^n -/
def pw (n : Int) : UInt64 := UInt64.ofNat ((n + 1023).toNat * 4503599627370496)
def iI (i : Int) : Int32 := Int32.ofInt i
theorem iI_toInt {i : Int} (h1 : -2147483648 ≤ i) (h2 : i < 2147483648) : (iI i).toInt = i := Int32.toInt_ofInt_of_le (by omega) (by omega)
theorem iI_eq {a : Int32} {i : Int} (h : a.toInt = i) : a = iI i := by
  apply Int32.toInt_inj.mp
  have h1 := Int32.le_toInt a
  have h2 := Int32.toInt_lt a
  rw [iI_toInt (by omega) (by omega), h]
theorem nI_iI (n : Nat) : nI n = iI n := rfl
theorem lI_i32 {i : Int} : (lI i).toInt32 = iI i := by
  unfold lI iI
  simp [Int64.toInt32_ofInt]
theorem iI_l {i : Int} (h1 : -2147483648 ≤ i) (h2 : i < 2147483648) : (iI i).toInt64 = lI i := by
  apply Int64.toInt_inj.mp
  rw [Int32.toInt_toInt64, iI_toInt h1 h2, lI_toInt (by omega) (by omega)]
theorem sar (x : Int64) {D : Int64} {d : Nat} (hD : (D.toBitVec.smod 64).toNat = d) : (x >>> D).toInt = x.toInt / 2 ^ d := by
  have e : (x >>> D).toInt = x.toInt >>> d := by
    rw [← hD]
    exact BitVec.toInt_sshiftRight ..
  rw [e, Int.shiftRight_eq_div_pow]
  norm_cast
theorem mag_shr {x : UInt64} (hx : dNum x) : ((x.toInt64 &&& 9218868437227405312) >>> ((52 : Int32).toInt64 &&& 63)) - 1023 = lI ((dE x : Int) - 1023) := by
  have h1 : x.toInt64 &&& 9218868437227405312 = lN (dE x * 4503599627370496) := by
    rw [d_lN]
    have hb : (9218868437227405312 : Int64) = lN 9218868437227405312 := rfl
    rw [hb, wb_and x.toNat_lt (by decide)]
    congr 1
    have e : (9218868437227405312 : Nat) = (2 ^ 11 - 1) * 2 ^ 52 := by decide
    have hx1 : x.toNat = x.toNat / 2 ^ 52 * 2 ^ 52 + x.toNat % 2 ^ 52 := by omega
    apply Nat.eq_of_testBit_eq
    intro i
    rw [e, Nat.testBit_and, Nat.testBit_mul_two_pow]
    have e2 : dE x * 4503599627370496 = (x.toNat / 2 ^ 52 % 2 ^ 11) * 2 ^ 52 := by unfold dE dP; omega
    rw [e2, Nat.testBit_mul_two_pow]
    by_cases hi : 52 ≤ i
    · simp only [hi, decide_true, Bool.true_and]
      rw [Nat.testBit_mod_two_pow, Nat.testBit_two_pow_sub_one, Nat.testBit_div_two_pow]
      rw [show i - 52 + 52 = i by omega]
      cases x.toNat.testBit i <;> simp
    · simp [hi]
  have hE : dE x ≤ 2047 := by unfold dNum at hx; unfold dE; omega
  rw [h1]
  apply Int64.toInt_inj.mp
  rw [lI_toInt (by omega) (by omega), Int64.toInt_sub]
  have h2 : (lN (dE x * 4503599627370496) >>> ((52 : Int32).toInt64 &&& 63)) = lN (dE x) := by
    apply Int64.toInt_inj.mp
    rw [sar _ (show ((((52 : Int32).toInt64 &&& 63) : Int64).toBitVec.smod 64).toNat = 52 from by decide), pk_lT (n := dE x) (by omega), pk_lT (by omega)]
    omega
  rw [h2, pk_lT (by omega), show (1023 : Int64).toInt = 1023 from by decide, Int.bmod_eq_of_le (by omega) (by omega)]

set_option maxHeartbeats 1000000 in
theorem m_getExponent (l : Launch) (z : State) (H0 : Heap) (x : UInt64)  (hx0 : dNum x) : Met l yJ12_getExponent (ws_ yJ12_getExponent cJ12_getExponent 2 (some .int)) { frames := 1, cells := 0, slots := 0, locals := 23 } (gPc z H0 [.double x]) (gPi H0 (fun r => r = iI ((dE x : Int) - 1023))) 0 0 gno := by
  refine g_start (pl_J12_getExponent) (Nat.le_of_ble_eq_true rfl) ?_
  intro p e s m below meth c ls hx hb hr hlocks hml hown hname hts hwm hl
  have hown : s.vm.findClass "java/lang/Math" = some m.cls := hown
  have hal : z.vm.Alike s.vm := hwm.alike
  have hCF : CallFix p m c cJ12_getExponent 2 s [.double x].toArray lw_all "java/lang/Math" := ⟨hx, hb, hml, hown, hts⟩
  have hl : lv_has ls 2 [(0, .double x)] := hl
  refine lv_dload_n hx hb dJ12_getExponent_0 rfl (lv_at hl 0 rfl) ?_
  refine vn_d2l hx hb (hml.trans hl.1.symm) hown (hts _ q887) (hts _ q207) (hts _ q206) (hts _ q69) (Nat.le_of_ble_eq_true rfl) (Nat.le_of_ble_eq_true rfl) dJ12_getExponent_1 ?_
  refine lv_ldc2 (v := 9218868437227405312) hx hb hown (hts _ q888) dJ12_getExponent_4 ?_
  refine lv_land hx hb dJ12_getExponent_7 ?_
  refine lv_bipush (v := 52) hx hb dJ12_getExponent_8 (by decide) ?_
  refine lv_lshr hx hb dJ12_getExponent_10 rfl ?_
  refine lv_ldc2 (v := 1023) hx hb hown (hts _ q889) dJ12_getExponent_11 ?_
  refine lv_lsub hx hb dJ12_getExponent_14 ?_
  refine g_topl (v := (lI ((dE x : Int) - 1023))) (mag_shr hx0) ?_
  refine lv_l2i hx hb dJ12_getExponent_15 rfl ?_
  refine g_iretP hx hb hr hlocks ?_ dJ12_getExponent_16
  exact lI_i32
set_option maxHeartbeats 1000000 in
theorem m_maxI (l : Launch) (z : State) (H0 : Heap) (a : Int32) (b : Int32)   : Met l yJ12_max (ws_ yJ12_max cJ12_max 2 (some .int)) { frames := 0, cells := 0, slots := 0, locals := 0 } (gPc z H0 [.int a, .int b]) (gPi H0 (fun r => r = if a < b then b else a)) 0 0 gno := by
  refine g_start (pl_J12_max) (Nat.le_of_ble_eq_true rfl) ?_
  intro p e s m below meth c ls hx hb hr hlocks hml hown hname hts hwm hl
  have hown : s.vm.findClass "java/lang/Math" = some m.cls := hown
  have hal : z.vm.Alike s.vm := hwm.alike
  have hCF : CallFix p m c cJ12_max 2 s [.int a, .int b].toArray lw_all "java/lang/Math" := ⟨hx, hb, hml, hown, hts⟩
  have hl : lv_has ls 2 [(0, .int a), (1, .int b)] := hl
  refine lv_iload_n hx hb dJ12_max_0 rfl (lv_at hl 0 rfl) ?_
  refine lv_iload_n hx hb dJ12_max_1 rfl (lv_at hl 1 rfl) ?_
  refine lv_icmp_lt (tgt := 9) hx hb dJ12_max_2 (by decide) (fun c_2 => ?_) (fun c_2 => ?_)
  · skip
    refine lv_iload_n hx hb dJ12_max_9 rfl (lv_at hl 1 rfl) ?_
    refine g_iretP hx hb hr hlocks ?_ dJ12_max_10
    simp [c_2]
  · skip
    refine lv_iload_n hx hb dJ12_max_5 rfl (lv_at hl 0 rfl) ?_
    refine lv_goto (tgt := 10) hx hb dJ12_max_6 (by decide) ?_
    refine g_iretP hx hb hr hlocks ?_ dJ12_max_10
    simp [c_2]
set_option maxHeartbeats 1000000 in
theorem m_minI (l : Launch) (z : State) (H0 : Heap) (a : Int32) (b : Int32)   : Met l yJ12_min (ws_ yJ12_min cJ12_min 2 (some .int)) { frames := 0, cells := 0, slots := 0, locals := 0 } (gPc z H0 [.int a, .int b]) (gPi H0 (fun r => r = if b < a then b else a)) 0 0 gno := by
  refine g_start (pl_J12_min) (Nat.le_of_ble_eq_true rfl) ?_
  intro p e s m below meth c ls hx hb hr hlocks hml hown hname hts hwm hl
  have hown : s.vm.findClass "java/lang/Math" = some m.cls := hown
  have hal : z.vm.Alike s.vm := hwm.alike
  have hCF : CallFix p m c cJ12_min 2 s [.int a, .int b].toArray lw_all "java/lang/Math" := ⟨hx, hb, hml, hown, hts⟩
  have hl : lv_has ls 2 [(0, .int a), (1, .int b)] := hl
  refine lv_iload_n hx hb dJ12_min_0 rfl (lv_at hl 0 rfl) ?_
  refine lv_iload_n hx hb dJ12_min_1 rfl (lv_at hl 1 rfl) ?_
  refine lv_icmp_gt (tgt := 9) hx hb dJ12_min_2 (by decide) (fun c_2 => ?_) (fun c_2 => ?_)
  · skip
    refine lv_iload_n hx hb dJ12_min_9 rfl (lv_at hl 1 rfl) ?_
    refine g_iretP hx hb hr hlocks ?_ dJ12_min_10
    simp [c_2]
  · skip
    refine lv_iload_n hx hb dJ12_min_5 rfl (lv_at hl 0 rfl) ?_
    refine lv_goto (tgt := 10) hx hb dJ12_min_6 (by decide) ?_
    refine g_iretP hx hb hr hlocks ?_ dJ12_min_10
    simp [c_2]
set_option maxHeartbeats 1000000 in
theorem m_maxL (l : Launch) (z : State) (H0 : Heap) (a : Int64) (b : Int64)   : Met l yJ12_max_2 (ws_ yJ12_max_2 cJ12_max_2 4 (some .long)) { frames := 0, cells := 0, slots := 0, locals := 0 } (gPc z H0 [.long a, .long b]) (gPl H0 (fun r => r = if a < b then b else a)) 0 0 gno := by
  refine g_start (pl_J12_max_2) (Nat.le_of_ble_eq_true rfl) ?_
  intro p e s m below meth c ls hx hb hr hlocks hml hown hname hts hwm hl
  have hown : s.vm.findClass "java/lang/Math" = some m.cls := hown
  have hal : z.vm.Alike s.vm := hwm.alike
  have hCF : CallFix p m c cJ12_max_2 4 s [.long a, .long b].toArray lw_all "java/lang/Math" := ⟨hx, hb, hml, hown, hts⟩
  have hl : lv_has ls 4 [(0, .long a), (2, .long b)] := hl
  refine lv_lload_n hx hb dJ12_max_2_0 rfl (lv_at hl 0 rfl) ?_
  refine lv_lload_n hx hb dJ12_max_2_1 rfl (lv_at hl 1 rfl) ?_
  refine W.lcmp hx hb dJ12_max_2_2 ?_
  refine lv_if_lt (tgt := 10) hx hb dJ12_max_2_3 (by decide) (fun c_3 => ?_) (fun c_3 => ?_)
  · skip
    refine lv_lload_n hx hb dJ12_max_2_10 rfl (lv_at hl 1 rfl) ?_
    refine g_lretP hx hb hr hlocks ?_ dJ12_max_2_11
    rw [lc_lt, ← Int64.lt_iff_toInt_lt] at c_3
    simp [c_3]
  · skip
    refine lv_lload_n hx hb dJ12_max_2_6 rfl (lv_at hl 0 rfl) ?_
    refine lv_goto (tgt := 11) hx hb dJ12_max_2_7 (by decide) ?_
    refine g_lretP hx hb hr hlocks ?_ dJ12_max_2_11
    rw [lc_lt, ← Int64.lt_iff_toInt_lt] at c_3
    simp [c_3]
set_option maxHeartbeats 1000000 in
theorem m_minL (l : Launch) (z : State) (H0 : Heap) (a : Int64) (b : Int64)   : Met l yJ12_min_2 (ws_ yJ12_min_2 cJ12_min_2 4 (some .long)) { frames := 0, cells := 0, slots := 0, locals := 0 } (gPc z H0 [.long a, .long b]) (gPl H0 (fun r => r = if b < a then b else a)) 0 0 gno := by
  refine g_start (pl_J12_min_2) (Nat.le_of_ble_eq_true rfl) ?_
  intro p e s m below meth c ls hx hb hr hlocks hml hown hname hts hwm hl
  have hown : s.vm.findClass "java/lang/Math" = some m.cls := hown
  have hal : z.vm.Alike s.vm := hwm.alike
  have hCF : CallFix p m c cJ12_min_2 4 s [.long a, .long b].toArray lw_all "java/lang/Math" := ⟨hx, hb, hml, hown, hts⟩
  have hl : lv_has ls 4 [(0, .long a), (2, .long b)] := hl
  refine lv_lload_n hx hb dJ12_min_2_0 rfl (lv_at hl 0 rfl) ?_
  refine lv_lload_n hx hb dJ12_min_2_1 rfl (lv_at hl 1 rfl) ?_
  refine W.lcmp hx hb dJ12_min_2_2 ?_
  refine lv_if_gt (tgt := 10) hx hb dJ12_min_2_3 (by decide) (fun c_3 => ?_) (fun c_3 => ?_)
  · skip
    refine lv_lload_n hx hb dJ12_min_2_10 rfl (lv_at hl 1 rfl) ?_
    refine g_lretP hx hb hr hlocks ?_ dJ12_min_2_11
    rw [lc_gt, ← Int64.lt_iff_toInt_lt] at c_3
    simp [c_3]
  · skip
    refine lv_lload_n hx hb dJ12_min_2_6 rfl (lv_at hl 0 rfl) ?_
    refine lv_goto (tgt := 11) hx hb dJ12_min_2_7 (by decide) ?_
    refine g_lretP hx hb hr hlocks ?_ dJ12_min_2_11
    rw [lc_gt, ← Int64.lt_iff_toInt_lt] at c_3
    simp [c_3]
set_option maxHeartbeats 1000000 in
theorem m_signum (l : Launch) (z : State) (H0 : Heap) (v : Int32)  (hv : v = -1 ∨ v = 0 ∨ v = 1) : Met l yJ17_signum (ws_ yJ17_signum cJ17_signum 1 (some .int)) { frames := 0, cells := 0, slots := 0, locals := 0 } (gPc z H0 [.int v]) (gPi H0 (fun r => r = v)) 0 0 gno := by
  refine g_start (by decide +kernel) (Nat.le_of_ble_eq_true rfl) ?_
  intro p e s m below meth c ls hx hb hr hlocks hml hown hname hts hwm hl
  have hown : s.vm.findClass "java/lang/Integer" = some m.cls := hown
  have hal : z.vm.Alike s.vm := hwm.alike
  have hCF : CallFix p m c cJ17_signum 1 s [.int v].toArray lw_all "java/lang/Integer" := ⟨hx, hb, hml, hown, hts⟩
  have hl : lv_has ls 1 [(0, .int v)] := hl
  refine lv_iload_n hx hb dJ17_signum_0 rfl (lv_at hl 0 rfl) ?_
  refine lv_bipush (v := 31) hx hb dJ17_signum_1 (by decide) ?_
  refine lv_ishr hx hb dJ17_signum_3 ?_
  refine lv_iload_n hx hb dJ17_signum_4 rfl (lv_at hl 0 rfl) ?_
  refine lv_ineg hx hb dJ17_signum_5 ?_
  refine lv_bipush (v := 31) hx hb dJ17_signum_6 (by decide) ?_
  refine lv_iushr hx hb dJ17_signum_8 rfl ?_
  refine lv_ior hx hb dJ17_signum_9 ?_
  refine g_iretP hx hb hr hlocks ?_ dJ17_signum_10
  rcases hv with h | h | h <;> subst h <;> decide
set_option maxHeartbeats 1000000 in
theorem m_compare (l : Launch) (z : State) (H0 : Heap) (x : UInt64) (y : UInt64)  (hx0 : dNum x) (hy0 : dNum y) : Met l yJ9_compare (ws_ yJ9_compare cJ9_compare 8 (some .int)) { frames := 2, cells := 0, slots := 0, locals := 44 } (gPc z H0 [.double x, .double y]) (gPi H0 (fun r => r = dOrd x y)) 0 0 gno := by
  refine g_start (by decide +kernel) (Nat.le_of_ble_eq_true rfl) ?_
  intro p e s m below meth c ls hx hb hr hlocks hml hown hname hts hwm hl
  have hown : s.vm.findClass "java/lang/Double" = some m.cls := hown
  have hal : z.vm.Alike s.vm := hwm.alike
  have hCF : CallFix p m c cJ9_compare 8 s [.double x, .double y].toArray lw_all "java/lang/Double" := ⟨hx, hb, hml, hown, hts⟩
  have hl : lv_has ls 8 [(0, .double x), (2, .double y)] := hl
  refine lv_dload_n hx hb dJ9_compare_0 rfl (lv_at hl 0 rfl) ?_
  refine lv_dload_n hx hb dJ9_compare_1 rfl (lv_at hl 1 rfl) ?_
  refine lv_dcmp hx hb dJ9_compare_2 ?_
  refine g_topi (v := (cK x y)) (cK_of hx0 hy0) ?_
  refine lv_if_ge (tgt := 8) hx hb dJ9_compare_3 (by decide) (fun c_3 => ?_) (fun c_3 => ?_)
  · skip
    refine lv_dload_n hx hb dJ9_compare_8 rfl (lv_at hl 0 rfl) ?_
    refine lv_dload_n hx hb dJ9_compare_9 rfl (lv_at hl 1 rfl) ?_
    refine lv_dcmp hx hb dJ9_compare_10 ?_
    refine g_topi (v := (cK x y)) (cK_of hx0 hy0) ?_
    refine lv_if_le (tgt := 16) hx hb dJ9_compare_11 (by decide) (fun c_11 => ?_) (fun c_11 => ?_)
    · skip
      refine lv_dload_n hx hb dJ9_compare_16 rfl (lv_at hl 0 rfl) ?_
      refine gcS1_lP hCF hwm hl.1 (m_dlb l z H0 x hx0 ) (lw_S q2050 q200 q69 q201) yd_J9_doubleToLongBits ⟨Nat.le_of_ble_eq_true rfl, Nat.le_of_ble_eq_true rfl⟩ ⟨Nat.le_of_ble_eq_true rfl, Nat.le_of_ble_eq_true rfl⟩ (Nat.le_of_ble_eq_true rfl) dJ9_compare_17 (fun r_1 hp => ?_)
      subst hp
      refine lv_lstore hx hb dJ9_compare_20 hl (by decide) rfl (fun ls hl => ?_)
      have hl : lv_has ls 8 [(4, .long x.toInt64), (0, .double x), (2, .double y)] := hl
      refine lv_dload_n hx hb dJ9_compare_22 rfl (lv_at hl 2 rfl) ?_
      refine gcS1_lP hCF hwm hl.1 (m_dlb l z H0 y hy0 ) (lw_S q2050 q200 q69 q201) yd_J9_doubleToLongBits ⟨Nat.le_of_ble_eq_true rfl, Nat.le_of_ble_eq_true rfl⟩ ⟨Nat.le_of_ble_eq_true rfl, Nat.le_of_ble_eq_true rfl⟩ (Nat.le_of_ble_eq_true rfl) dJ9_compare_23 (fun r_2 hp => ?_)
      subst hp
      refine lv_lstore hx hb dJ9_compare_26 hl (by decide) rfl (fun ls hl => ?_)
      have hl : lv_has ls 8 [(6, .long y.toInt64), (4, .long x.toInt64), (0, .double x), (2, .double y)] := hl
      refine lv_lload hx hb dJ9_compare_28 (lv_at hl 1 rfl) ?_
      refine lv_lload hx hb dJ9_compare_30 (lv_at hl 0 rfl) ?_
      refine W.lcmp hx hb dJ9_compare_32 ?_
      refine lv_if_ne (tgt := 40) hx hb dJ9_compare_33 (by decide) (fun c_33 => ?_) (fun c_33 => ?_)
      · skip
        refine lv_lload hx hb dJ9_compare_40 (lv_at hl 1 rfl) ?_
        refine lv_lload hx hb dJ9_compare_42 (lv_at hl 0 rfl) ?_
        refine W.lcmp hx hb dJ9_compare_44 ?_
        refine lv_if_ge (tgt := 52) hx hb dJ9_compare_45 (by decide) (fun c_45 => ?_) (fun c_45 => ?_)
        · skip
          refine lv_iconst (v := 1) hx hb dJ9_compare_52 (by decide) ?_
          refine g_iretP hx hb hr hlocks ?_ dJ9_compare_53
          rw [cK_ge] at c_3
          rw [cK_le] at c_11
          unfold dOrd
          rw [if_neg (by omega), if_neg (by omega)]
          have hh := dK_inj (x := x) (y := y) (by omega)
          have hx := dI_toInt x
          have hy := dI_toInt y
          have hne : x ≠ y := fun e => c_33 (by rw [e]; exact lc_eq.mpr rfl)
          rw [if_neg hne]
          have h0 : dP x = 0 ∧ dP y = 0 := by
            rcases hh with h | h
            · exact absurd h hne
            · exact h
          rw [h0.1] at hx
          rw [h0.2] at hy
          rw [lc_ge] at c_45
          cases hs : dS x <;> cases ht : dS y <;> simp only [hs, ht, if_true, if_false, Bool.false_eq_true] at hx hy <;> first | rfl | (exfalso; omega) | exact absurd (d_ext (by rw [hs, ht]) (by rw [h0.1, h0.2])) hne
        · skip
          refine lv_iconst (v := -1) hx hb dJ9_compare_48 (by decide) ?_
          refine lv_goto (tgt := 53) hx hb dJ9_compare_49 (by decide) ?_
          refine g_iretP hx hb hr hlocks ?_ dJ9_compare_53
          rw [cK_ge] at c_3
          rw [cK_le] at c_11
          unfold dOrd
          rw [if_neg (by omega), if_neg (by omega)]
          have hh := dK_inj (x := x) (y := y) (by omega)
          have hx := dI_toInt x
          have hy := dI_toInt y
          have hne : x ≠ y := fun e => c_33 (by rw [e]; exact lc_eq.mpr rfl)
          rw [if_neg hne]
          have h0 : dP x = 0 ∧ dP y = 0 := by
            rcases hh with h | h
            · exact absurd h hne
            · exact h
          rw [h0.1] at hx
          rw [h0.2] at hy
          rw [lc_ge] at c_45
          cases hs : dS x <;> cases ht : dS y <;> simp only [hs, ht, if_true, if_false, Bool.false_eq_true] at hx hy <;> first | rfl | (exfalso; omega) | exact absurd (d_ext (by rw [hs, ht]) (by rw [h0.1, h0.2])) hne
      · skip
        refine lv_iconst (v := 0) hx hb dJ9_compare_36 (by decide) ?_
        refine lv_goto (tgt := 53) hx hb dJ9_compare_37 (by decide) ?_
        refine g_iretP hx hb hr hlocks ?_ dJ9_compare_53
        rw [cK_ge] at c_3
        rw [cK_le] at c_11
        unfold dOrd
        rw [if_neg (by omega), if_neg (by omega)]
        have hh := dK_inj (x := x) (y := y) (by omega)
        have hx := dI_toInt x
        have hy := dI_toInt y
        have e : x = y := u64_inj (Int64.toInt_inj.mp (lc_eq.mp c_33))
        rw [if_pos e]
    · skip
      refine lv_iconst (v := 1) hx hb dJ9_compare_14 (by decide) ?_
      refine g_iretP hx hb hr hlocks ?_ dJ9_compare_15
      rw [cK_ge] at c_3
      rw [cK_le] at c_11
      unfold dOrd
      rw [if_neg (by omega), if_pos (by omega)]
  · skip
    refine lv_iconst (v := -1) hx hb dJ9_compare_6 (by decide) ?_
    refine g_iretP hx hb hr hlocks ?_ dJ9_compare_7
    rw [cK_ge] at c_3
    unfold dOrd
    rw [if_pos (by omega)]
