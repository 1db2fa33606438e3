/-! ## walks (written by tools) -/
set_option maxRecDepth 100000
def dkwJ9_isNaN_0 : List UInt8 := [38, 38, 151, 153, 0, 7, 4, 167, 0, 4, 3, 172]
abbrev dktJ9_isNaN_0 : List UInt8 := dkwJ9_isNaN_0 ++ []
theorem dksJ9_isNaN_0 : cJ9_isNaN.data.toList.drop 0 = dktJ9_isNaN_0 := by decide +kernel
theorem dJ9_isNaN_0 : decode cJ9_isNaN 0 = .ok (.dload_n 0, 1) := dk_38 (dk_at dksJ9_isNaN_0 0 rfl rfl)
theorem dJ9_isNaN_1 : decode cJ9_isNaN 1 = .ok (.dload_n 0, 1) := dk_38 (dk_at dksJ9_isNaN_0 1 rfl rfl)
theorem dJ9_isNaN_2 : decode cJ9_isNaN 2 = .ok (.dcmp .l, 1) := dk_151 (dk_at dksJ9_isNaN_0 2 rfl rfl)
theorem dJ9_isNaN_3 : decode cJ9_isNaN 3 = .ok (.ifCond .eq 7, 3) := dk_153 0 7 (dk_at dksJ9_isNaN_0 3 rfl rfl)
theorem dJ9_isNaN_6 : decode cJ9_isNaN 6 = .ok (.iconst 1, 1) := dk_4 (dk_at dksJ9_isNaN_0 6 rfl rfl)
theorem dJ9_isNaN_7 : decode cJ9_isNaN 7 = .ok (.goto 4, 3) := dk_167 0 4 (dk_at dksJ9_isNaN_0 7 rfl rfl)
theorem dJ9_isNaN_10 : decode cJ9_isNaN 10 = .ok (.iconst 0, 1) := dk_3 (dk_at dksJ9_isNaN_0 10 rfl rfl)
theorem dJ9_isNaN_11 : decode cJ9_isNaN 11 = .ok (.ireturn, 1) := dk_172 (dk_at dksJ9_isNaN_0 11 rfl rfl)
def dkwJ9_doubleToLongBits_0 : List UInt8 := [38, 184, 0, 122, 154, 0, 8, 38, 184, 0, 134, 173, 20, 0, 137, 173]
abbrev dktJ9_doubleToLongBits_0 : List UInt8 := dkwJ9_doubleToLongBits_0 ++ []
theorem dksJ9_doubleToLongBits_0 : cJ9_doubleToLongBits.data.toList.drop 0 = dktJ9_doubleToLongBits_0 := by decide +kernel
theorem dJ9_doubleToLongBits_0 : decode cJ9_doubleToLongBits 0 = .ok (.dload_n 0, 1) := dk_38 (dk_at dksJ9_doubleToLongBits_0 0 rfl rfl)
theorem dJ9_doubleToLongBits_1 : decode cJ9_doubleToLongBits 1 = .ok (.invokestatic 122, 3) := dk_184 0 122 (dk_at dksJ9_doubleToLongBits_0 1 rfl rfl)
theorem dJ9_doubleToLongBits_4 : decode cJ9_doubleToLongBits 4 = .ok (.ifCond .ne 8, 3) := dk_154 0 8 (dk_at dksJ9_doubleToLongBits_0 4 rfl rfl)
theorem dJ9_doubleToLongBits_7 : decode cJ9_doubleToLongBits 7 = .ok (.dload_n 0, 1) := dk_38 (dk_at dksJ9_doubleToLongBits_0 7 rfl rfl)
theorem dJ9_doubleToLongBits_8 : decode cJ9_doubleToLongBits 8 = .ok (.invokestatic 134, 3) := dk_184 0 134 (dk_at dksJ9_doubleToLongBits_0 8 rfl rfl)
theorem dJ9_doubleToLongBits_11 : decode cJ9_doubleToLongBits 11 = .ok (.lreturn, 1) := dk_173 (dk_at dksJ9_doubleToLongBits_0 11 rfl rfl)
theorem dJ9_doubleToLongBits_12 : decode cJ9_doubleToLongBits 12 = .ok (.ldc2_w 137, 3) := dk_20 0 137 (dk_at dksJ9_doubleToLongBits_0 12 rfl rfl)
theorem dJ9_doubleToLongBits_15 : decode cJ9_doubleToLongBits 15 = .ok (.lreturn, 1) := dk_173 (dk_at dksJ9_doubleToLongBits_0 15 rfl rfl)
theorem dX1_digitsOf_0 : decode cX1_digitsOf 0 = .ok (.dload_n 0, 1) := by decide +kernel
theorem dX1_digitsOf_1 : decode cX1_digitsOf 1 = .ok (.invokestatic 43, 3) := by decide +kernel
theorem dX1_digitsOf_4 : decode cX1_digitsOf 4 = .ok (.lreturn, 1) := by decide +kernel
def dkwX1_pointOf_0 : List UInt8 := [38, 184, 0, 49, 20, 0, 52, 127, 173]
abbrev dktX1_pointOf_0 : List UInt8 := dkwX1_pointOf_0 ++ []
theorem dksX1_pointOf_0 : cX1_pointOf.data.toList.drop 0 = dktX1_pointOf_0 := by decide +kernel
theorem dX1_pointOf_0 : decode cX1_pointOf 0 = .ok (.dload_n 0, 1) := dk_38 (dk_at dksX1_pointOf_0 0 rfl rfl)
theorem dX1_pointOf_1 : decode cX1_pointOf 1 = .ok (.invokestatic 49, 3) := dk_184 0 49 (dk_at dksX1_pointOf_0 1 rfl rfl)
theorem dX1_pointOf_4 : decode cX1_pointOf 4 = .ok (.ldc2_w 52, 3) := dk_20 0 52 (dk_at dksX1_pointOf_0 4 rfl rfl)
theorem dX1_pointOf_7 : decode cX1_pointOf 7 = .ok (.land, 1) := dk_127 (dk_at dksX1_pointOf_0 7 rfl rfl)
theorem dX1_pointOf_8 : decode cX1_pointOf 8 = .ok (.lreturn, 1) := dk_173 (dk_at dksX1_pointOf_0 8 rfl rfl)
def dkwX1_exponentOf_0 : List UInt8 := [38, 184, 0, 54, 16, 52, 125, 136, 172]
abbrev dktX1_exponentOf_0 : List UInt8 := dkwX1_exponentOf_0 ++ []
theorem dksX1_exponentOf_0 : cX1_exponentOf.data.toList.drop 0 = dktX1_exponentOf_0 := by decide +kernel
theorem dX1_exponentOf_0 : decode cX1_exponentOf 0 = .ok (.dload_n 0, 1) := dk_38 (dk_at dksX1_exponentOf_0 0 rfl rfl)
theorem dX1_exponentOf_1 : decode cX1_exponentOf 1 = .ok (.invokestatic 54, 3) := dk_184 0 54 (dk_at dksX1_exponentOf_0 1 rfl rfl)
theorem dX1_exponentOf_4 : decode cX1_exponentOf 4 = .ok (.bipush 52, 2) := dk_16 52 (dk_at dksX1_exponentOf_0 4 rfl rfl)
theorem dX1_exponentOf_6 : decode cX1_exponentOf 6 = .ok (.lushr, 1) := dk_125 (dk_at dksX1_exponentOf_0 6 rfl rfl)
theorem dX1_exponentOf_7 : decode cX1_exponentOf 7 = .ok (.l2i, 1) := dk_136 (dk_at dksX1_exponentOf_0 7 rfl rfl)
theorem dX1_exponentOf_8 : decode cX1_exponentOf 8 = .ok (.ireturn, 1) := dk_172 (dk_at dksX1_exponentOf_0 8 rfl rfl)
def dkwX1_isSigned_0 : List UInt8 := [38, 184, 0, 49, 9, 148, 156, 0, 7, 4, 167, 0, 4, 3, 172]
abbrev dktX1_isSigned_0 : List UInt8 := dkwX1_isSigned_0 ++ []
theorem dksX1_isSigned_0 : cX1_isSigned.data.toList.drop 0 = dktX1_isSigned_0 := by decide +kernel
theorem dX1_isSigned_0 : decode cX1_isSigned 0 = .ok (.dload_n 0, 1) := dk_38 (dk_at dksX1_isSigned_0 0 rfl rfl)
theorem dX1_isSigned_1 : decode cX1_isSigned 1 = .ok (.invokestatic 49, 3) := dk_184 0 49 (dk_at dksX1_isSigned_0 1 rfl rfl)
theorem dX1_isSigned_4 : decode cX1_isSigned 4 = .ok (.lconst 0, 1) := dk_9 (dk_at dksX1_isSigned_0 4 rfl rfl)
theorem dX1_isSigned_5 : decode cX1_isSigned 5 = .ok (.lcmp, 1) := dk_148 (dk_at dksX1_isSigned_0 5 rfl rfl)
theorem dX1_isSigned_6 : decode cX1_isSigned 6 = .ok (.ifCond .ge 7, 3) := dk_156 0 7 (dk_at dksX1_isSigned_0 6 rfl rfl)
theorem dX1_isSigned_9 : decode cX1_isSigned 9 = .ok (.iconst 1, 1) := dk_4 (dk_at dksX1_isSigned_0 9 rfl rfl)
theorem dX1_isSigned_10 : decode cX1_isSigned 10 = .ok (.goto 4, 3) := dk_167 0 4 (dk_at dksX1_isSigned_0 10 rfl rfl)
theorem dX1_isSigned_13 : decode cX1_isSigned 13 = .ok (.iconst 0, 1) := dk_3 (dk_at dksX1_isSigned_0 13 rfl rfl)
theorem dX1_isSigned_14 : decode cX1_isSigned 14 = .ok (.ireturn, 1) := dk_172 (dk_at dksX1_isSigned_0 14 rfl rfl)
theorem yd_J9_doubleToLongBits : yJ9_doubleToLongBits.cls ≠ "java/lang/invoke/MethodHandle" ∧ yJ9_doubleToLongBits.cls ≠ "java/lang/invoke/VarHandle" ∧ (parseMethodDescriptor yJ9_doubleToLongBits.desc).map (fun d => d.parameters.length) = some 1 := by decide +kernel
theorem yd_J9_isNaN : yJ9_isNaN.cls ≠ "java/lang/invoke/MethodHandle" ∧ yJ9_isNaN.cls ≠ "java/lang/invoke/VarHandle" ∧ (parseMethodDescriptor yJ9_isNaN.desc).map (fun d => d.parameters.length) = some 1 := by decide +kernel
theorem yd_X1_digitsOf : yX1_digitsOf.cls ≠ "java/lang/invoke/MethodHandle" ∧ yX1_digitsOf.cls ≠ "java/lang/invoke/VarHandle" ∧ (parseMethodDescriptor yX1_digitsOf.desc).map (fun d => d.parameters.length) = some 1 := by decide +kernel
theorem yd_X1_pointOf : yX1_pointOf.cls ≠ "java/lang/invoke/MethodHandle" ∧ yX1_pointOf.cls ≠ "java/lang/invoke/VarHandle" ∧ (parseMethodDescriptor yX1_pointOf.desc).map (fun d => d.parameters.length) = some 1 := by decide +kernel
/-- the order of two numbers as dcmp and lcmp give it -/
def cK (x y : UInt64) : Int32 := if dK x < dK y then -1 else if dK x = dK y then 0 else 1
theorem cK_of {x y : UInt64} {op : CmpOp} (hx : dNum x) (hy : dNum y) : Op.cmpValue (FP.dcmp x y) op = cK x y := cmpV hx hy
theorem cK_lt {x y : UInt64} : cK x y < 0 ↔ dK x < dK y := by
  unfold cK; split
  · simp [*]
  · split <;> simp [*]
theorem cK_le {x y : UInt64} : cK x y ≤ 0 ↔ dK x ≤ dK y := by
  unfold cK; split
  · simp [*]; omega
  · split
    · simp [*]
    · simp [*]; omega
theorem cK_eq {x y : UInt64} : cK x y = 0 ↔ dK x = dK y := by
  unfold cK; split
  · simp [*]; omega
  · split <;> simp [*]
theorem cK_ge {x y : UInt64} : 0 ≤ cK x y ↔ dK y ≤ dK x := by
  unfold cK; split
  · simp [*]
  · split
    · simp [*]
    · simp [*]; omega
theorem cK_gt {x y : UInt64} : 0 < cK x y ↔ dK y < dK x := by
  unfold cK; split
  · simp [*]; omega
  · split
    · simp [*]
    · simp [*]; omega
theorem lc_lt {x y : Int64} : lg_cmp x y < 0 ↔ x.toInt < y.toInt := by
  unfold lg_cmp; simp only [Int64.lt_iff_toInt_lt, ← Int64.toInt_inj]
  (repeat' split) <;> simp <;> omega
theorem lc_le {x y : Int64} : lg_cmp x y ≤ 0 ↔ x.toInt ≤ y.toInt := by
  unfold lg_cmp; simp only [Int64.lt_iff_toInt_lt, ← Int64.toInt_inj]
  (repeat' split) <;> simp <;> omega
theorem lc_eq {x y : Int64} : lg_cmp x y = 0 ↔ x.toInt = y.toInt := by
  unfold lg_cmp; simp only [Int64.lt_iff_toInt_lt, ← Int64.toInt_inj]
  (repeat' split) <;> simp <;> omega
theorem lc_ge {x y : Int64} : 0 ≤ lg_cmp x y ↔ y.toInt ≤ x.toInt := by
  unfold lg_cmp; simp only [Int64.lt_iff_toInt_lt, ← Int64.toInt_inj]
  (repeat' split) <;> simp <;> omega
theorem lc_gt {x y : Int64} : 0 < lg_cmp x y ↔ y.toInt < x.toInt := by
  unfold lg_cmp; simp only [Int64.lt_iff_toInt_lt, ← Int64.toInt_inj]
  (repeat' split) <;> simp <;> omega
theorem snl {n : Nat} (h : n < 2 ^ 64) (h2 : n % 9223372036854775808 ≤ 9218868437227405312) : vn_snl2d (lN n) = false := by
  unfold vn_snl2d
  rw [lN_u h]
  have e : ¬ (UInt64.ofNat n &&& 0x7fffffffffffffff > 0x7ff0000000000000) := by
    show ¬ ((0x7ff0000000000000 : UInt64) < UInt64.ofNat n &&& 0x7fffffffffffffff)
    rw [UInt64.lt_iff_toNat_lt, UInt64.toNat_and, u_tn h]
    show ¬ (9218868437227405312 < n &&& 2 ^ 63 - 1)
    rw [Nat.and_two_pow_sub_one_eq_mod]
    show ¬ (9218868437227405312 < n % 9223372036854775808)
    omega
  simp only [decide_eq_false e, Bool.false_and]
theorem lN_32 (n : Nat) : (lN n).toInt32 = nI n := lN_i n
theorem u_ofP (x : UInt64) : dP (UInt64.ofNat (dP x)) = dP x := by
  have := dP_lt x
  have h : (UInt64.ofNat (dP x)).toNat = dP x := u_tn (by show _ < 18446744073709551616; omega)
  rw [show dP (UInt64.ofNat (dP x)) = (UInt64.ofNat (dP x)).toNat % 9223372036854775808 from rfl, h]
  omega
theorem u_ofS (x : UInt64) : dS (UInt64.ofNat (dP x)) = false := by
  have := dP_lt x
  have h : (UInt64.ofNat (dP x)).toNat = dP x := u_tn (by show _ < 18446744073709551616; omega)
  unfold dS
  rw [h]
  simp
  omega
/-- a double's size -/
def dA (x : UInt64) : UInt64 := UInt64.ofNat (dP x)
theorem dA_P (x : UInt64) : dP (dA x) = dP x := u_ofP x
theorem dA_S (x : UInt64) : dS (dA x) = false := u_ofS x
theorem dA_K (x : UInt64) : dK (dA x) = dP x := by rw [dK_eq, dA_S, dA_P]; simp
theorem dA_num {x : UInt64} (h : dNum x) : dNum (dA x) := by unfold dNum at *; rw [dA_P]; exact h
theorem dA_fin {x : UInt64} (h : dFin x) : dFin (dA x) := by unfold dFin at *; rw [dA_P]; exact h
theorem dneg_P (x : UInt64) : dP (FP.dneg x) = dP x := by
  unfold dP FP.dneg
  have h := x.toNat_lt
  rw [UInt64.toNat_xor]
  show (x.toNat ^^^ 2 ^ 63) % _ = _
  rw [nat_xor (by exact h)]
  omega
theorem dneg_S (x : UInt64) : dS (FP.dneg x) = !dS x := by
  unfold dS FP.dneg
  have h := x.toNat_lt
  rw [UInt64.toNat_xor]
  show decide (_ ≤ (x.toNat ^^^ 2 ^ 63)) = _
  rw [nat_xor (by exact h)]
  by_cases h1 : 9223372036854775808 ≤ x.toNat
  · simp [h1]; omega
  · simp [h1]; omega
theorem dneg_K (x : UInt64) : dK (FP.dneg x) = -dK x := by
  rw [dK_eq, dK_eq, dneg_S, dneg_P]; cases dS x <;> simp
theorem dneg_num {x : UInt64} (h : dNum x) : dNum (FP.dneg x) := by unfold dNum at *; rw [dneg_P]; exact h
theorem dneg_fin {x : UInt64} (h : dFin x) : dFin (FP.dneg x) := by unfold dFin at *; rw [dneg_P]; exact h
theorem lI_lt0 {i : Int} (h1 : -9223372036854775808 ≤ i) (h2 : i < 9223372036854775808) : lg_cmp (lI i) 0 < 0 ↔ i < 0 := by
  rw [lc_lt, lI_toInt h1 h2]; simp
theorem dOf_neg {i : Int} (h1 : -9223372036854775808 < i) (h : i < 0) : FP.dneg (UInt64.ofNat i.natAbs) = dOf i := by
  have hn : (UInt64.ofNat i.natAbs).toNat = i.natAbs := u_tn (by show _ < 18446744073709551616; omega)
  have e1 : dP (UInt64.ofNat i.natAbs) = i.natAbs := by
    rw [show dP (UInt64.ofNat i.natAbs) = (UInt64.ofNat i.natAbs).toNat % 9223372036854775808 from rfl, hn]; omega
  have e2 : dS (UInt64.ofNat i.natAbs) = false := by
    unfold dS; rw [hn]; simp; omega
  refine d_ext ?_ ?_
  · rw [dneg_S, e2, dOf_S h1 (by omega)]; simp [h]
  · rw [dneg_P, e1, dOf_P h1 (by omega)]
theorem dOf_pos {i : Int} (h : ¬ i < 0) : UInt64.ofNat i.natAbs = dOf i := by
  unfold dOf; rw [if_neg h]
theorem neg_lI {i : Int} : -lI i = lI (-i) := by
  apply Int64.toBitVec_inj.mp
  simp [Int64.ofInt]
theorem lI_pos {i : Int} (h : ¬ i < 0) : lI i = lN i.natAbs := by
  rw [lN_lI, Int.natAbs_of_nonneg (by omega)]
theorem lI_neg {i : Int} (h : i < 0) : lI (-i) = lN i.natAbs := by
  rw [lN_lI]; congr 1; omega
theorem and_cond_i {a b v : Int32} : gb (decide (a ≤ v ∧ v ≤ b)) = if a ≤ v then (if v ≤ b then 1 else 0) else 0 := by
  unfold gb
  by_cases h1 : a ≤ v <;> by_cases h2 : v ≤ b <;> simp [h1, h2]

set_option maxHeartbeats 1000000 in
theorem m_isNaN (l : Launch) (z : State) (H0 : Heap) (x : UInt64)  (hx0 : dNum x) : Met l yJ9_isNaN (ws_ yJ9_isNaN cJ9_isNaN 2 (some .boolean)) { frames := 0, cells := 0, slots := 0, locals := 0 } (gPc z H0 [.double x]) (gPi H0 (fun r => r = gb false)) 0 0 gno := by
  refine g_start (by decide +kernel) (Nat.le_of_ble_eq_true rfl) ?_
  intro p e s m below meth c ls hx hb hr hlocks hml hown hname hts hwm hl
  have hown : s.vm.findClass "java/lang/Double" = some m.cls := hown
  have hal : z.vm.Alike s.vm := hwm.alike
  have hCF : CallFix p m c cJ9_isNaN 2 s [.double x].toArray lw_all "java/lang/Double" := ⟨hx, hb, hml, hown, hts⟩
  have hl : lv_has ls 2 [(0, .double x)] := hl
  refine lv_dload_n hx hb dJ9_isNaN_0 rfl (lv_at hl 0 rfl) ?_
  refine lv_dload_n hx hb dJ9_isNaN_1 rfl (lv_at hl 0 rfl) ?_
  refine lv_dcmp hx hb dJ9_isNaN_2 ?_
  refine g_topi (v := (cK x x)) (cK_of hx0 hx0) ?_
  refine lv_if_eq (tgt := 10) hx hb dJ9_isNaN_3 (by decide) (fun c_3 => ?_) (fun c_3 => absurd (cK_eq.mpr rfl) c_3)
  refine lv_iconst (v := 0) hx hb dJ9_isNaN_10 (by decide) ?_
  refine g_zretP hx hb hr hlocks (rfl) ?_ dJ9_isNaN_11
  rfl
set_option maxHeartbeats 1000000 in
theorem m_dlb (l : Launch) (z : State) (H0 : Heap) (x : UInt64)  (hx0 : dNum x) : Met l yJ9_doubleToLongBits (ws_ yJ9_doubleToLongBits cJ9_doubleToLongBits 2 (some .long)) { frames := 1, cells := 0, slots := 0, locals := 23 } (gPc z H0 [.double x]) (gPl H0 (fun r => r = x.toInt64)) 0 0 gno := by
  refine g_start (by decide +kernel) (Nat.le_of_ble_eq_true rfl) ?_
  intro p e s m below meth c ls hx hb hr hlocks hml hown hname hts hwm hl
  have hown : s.vm.findClass "java/lang/Double" = some m.cls := hown
  have hal : z.vm.Alike s.vm := hwm.alike
  have hCF : CallFix p m c cJ9_doubleToLongBits 2 s [.double x].toArray lw_all "java/lang/Double" := ⟨hx, hb, hml, hown, hts⟩
  have hl : lv_has ls 2 [(0, .double x)] := hl
  refine lv_dload_n hx hb dJ9_doubleToLongBits_0 rfl (lv_at hl 0 rfl) ?_
  refine gcS1_iP hCF hwm hl.1 (m_isNaN l z H0 x hx0 ) (lw_S q202 q203 q69 q204) yd_J9_isNaN ⟨Nat.le_of_ble_eq_true rfl, Nat.le_of_ble_eq_true rfl⟩ ⟨Nat.le_of_ble_eq_true rfl, Nat.le_of_ble_eq_true rfl⟩ (Nat.le_of_ble_eq_true rfl) dJ9_doubleToLongBits_1 (fun r_1 hp => ?_)
  subst hp
  refine lv_if_ne (tgt := 12) hx hb dJ9_doubleToLongBits_4 (by decide) (fun c_4 => absurd (by decide) c_4) (fun c_4 => ?_)
  refine lv_dload_n hx hb dJ9_doubleToLongBits_7 rfl (lv_at hl 0 rfl) ?_
  refine vn_d2l hx hb (hml.trans hl.1.symm) hown (hts _ q205) (hts _ q207) (hts _ q206) (hts _ q69) (Nat.le_of_ble_eq_true rfl) (Nat.le_of_ble_eq_true rfl) dJ9_doubleToLongBits_8 ?_
  refine g_lretP hx hb hr hlocks ?_ dJ9_doubleToLongBits_11
  rfl
set_option maxHeartbeats 1000000 in
theorem m_digitsOf (l : Launch) (z : State) (H0 : Heap) (x : UInt64)  (hx0 : dNum x) : Met l yX1_digitsOf (ws_ yX1_digitsOf cX1_digitsOf 2 (some .long)) { frames := 2, cells := 0, slots := 0, locals := 44 } (gPc z H0 [.double x]) (gPl H0 (fun r => r = x.toInt64)) 0 0 gno := by
  refine g_start (by decide +kernel) (Nat.le_of_ble_eq_true rfl) ?_
  intro p e s m below meth c ls hx hb hr hlocks hml hown hname hts hwm hl
  have hown : s.vm.findClass "Nearplaces" = some m.cls := hown
  have hal : z.vm.Alike s.vm := hwm.alike
  have hCF : CallFix p m c cX1_digitsOf 2 s [.double x].toArray lw_all "Nearplaces" := ⟨hx, hb, hml, hown, hts⟩
  have hl : lv_has ls 2 [(0, .double x)] := hl
  refine lv_dload_n hx hb dX1_digitsOf_0 rfl (lv_at hl 0 rfl) ?_
  refine gcS1_lP hCF hwm hl.1 (m_dlb l z H0 x hx0 ) (lw_S q199 q200 q69 q201) yd_J9_doubleToLongBits ⟨Nat.le_of_ble_eq_true rfl, Nat.le_of_ble_eq_true rfl⟩ ⟨Nat.le_of_ble_eq_true rfl, Nat.le_of_ble_eq_true rfl⟩ (Nat.le_of_ble_eq_true rfl) dX1_digitsOf_1 (fun r_1 hp => ?_)
  subst hp
  refine g_lretP hx hb hr hlocks ?_ dX1_digitsOf_4
  rfl
set_option maxHeartbeats 1000000 in
theorem m_pointOf (l : Launch) (z : State) (H0 : Heap) (x : UInt64)  (hx0 : dNum x) : Met l yX1_pointOf (ws_ yX1_pointOf cX1_pointOf 2 (some .long)) { frames := 3, cells := 0, slots := 0, locals := 65 } (gPc z H0 [.double x]) (gPl H0 (fun r => r = lN (dP x))) 0 0 gno := by
  refine g_start (by decide +kernel) (Nat.le_of_ble_eq_true rfl) ?_
  intro p e s m below meth c ls hx hb hr hlocks hml hown hname hts hwm hl
  have hown : s.vm.findClass "Nearplaces" = some m.cls := hown
  have hal : z.vm.Alike s.vm := hwm.alike
  have hCF : CallFix p m c cX1_pointOf 2 s [.double x].toArray lw_all "Nearplaces" := ⟨hx, hb, hml, hown, hts⟩
  have hl : lv_has ls 2 [(0, .double x)] := hl
  refine lv_dload_n hx hb dX1_pointOf_0 rfl (lv_at hl 0 rfl) ?_
  refine gcS1_lP hCF hwm hl.1 (m_digitsOf l z H0 x hx0 ) (lw_S q196 q197 q65 q198) yd_X1_digitsOf ⟨Nat.le_of_ble_eq_true rfl, Nat.le_of_ble_eq_true rfl⟩ ⟨Nat.le_of_ble_eq_true rfl, Nat.le_of_ble_eq_true rfl⟩ (Nat.le_of_ble_eq_true rfl) dX1_pointOf_1 (fun r_1 hp => ?_)
  subst hp
  refine lv_ldc2 (v := 9223372036854775807) hx hb hown (hts _ q378) dX1_pointOf_4 ?_
  refine lv_land hx hb dX1_pointOf_7 ?_
  refine g_lretP hx hb hr hlocks ?_ dX1_pointOf_8
  exact d_and x
set_option maxHeartbeats 1000000 in
theorem m_exponentOf (l : Launch) (z : State) (H0 : Heap) (x : UInt64)  (hx0 : dNum x) : Met l yX1_exponentOf (ws_ yX1_exponentOf cX1_exponentOf 2 (some .int)) { frames := 4, cells := 0, slots := 0, locals := 86 } (gPc z H0 [.double x]) (gPi H0 (fun r => r = nI (dE x))) 0 0 gno := by
  refine g_start (by decide +kernel) (Nat.le_of_ble_eq_true rfl) ?_
  intro p e s m below meth c ls hx hb hr hlocks hml hown hname hts hwm hl
  have hown : s.vm.findClass "Nearplaces" = some m.cls := hown
  have hal : z.vm.Alike s.vm := hwm.alike
  have hCF : CallFix p m c cX1_exponentOf 2 s [.double x].toArray lw_all "Nearplaces" := ⟨hx, hb, hml, hown, hts⟩
  have hl : lv_has ls 2 [(0, .double x)] := hl
  refine lv_dload_n hx hb dX1_exponentOf_0 rfl (lv_at hl 0 rfl) ?_
  refine gcS1_lP hCF hwm hl.1 (m_pointOf l z H0 x hx0 ) (lw_S q375 q376 q65 q377) yd_X1_pointOf ⟨Nat.le_of_ble_eq_true rfl, Nat.le_of_ble_eq_true rfl⟩ ⟨Nat.le_of_ble_eq_true rfl, Nat.le_of_ble_eq_true rfl⟩ (Nat.le_of_ble_eq_true rfl) dX1_exponentOf_1 (fun r_1 hp => ?_)
  subst hp
  refine lv_bipush (v := 52) hx hb dX1_exponentOf_4 (by decide) ?_
  refine lv_lushr hx hb dX1_exponentOf_6 rfl ?_
  refine g_topl (v := (lN (dE x))) (lN_shr52 (Nat.lt_trans (dP_lt x) (by decide))) ?_
  refine lv_l2i hx hb dX1_exponentOf_7 rfl ?_
  refine g_iretP hx hb hr hlocks ?_ dX1_exponentOf_8
  exact lN_32 _
set_option maxHeartbeats 1000000 in
theorem m_isSigned (l : Launch) (z : State) (H0 : Heap) (x : UInt64)  (hx0 : dNum x) : Met l yX1_isSigned (ws_ yX1_isSigned cX1_isSigned 2 (some .boolean)) { frames := 3, cells := 0, slots := 0, locals := 65 } (gPc z H0 [.double x]) (gPi H0 (fun r => r = gb (dS x))) 0 0 gno := by
  refine g_start (by decide +kernel) (Nat.le_of_ble_eq_true rfl) ?_
  intro p e s m below meth c ls hx hb hr hlocks hml hown hname hts hwm hl
  have hown : s.vm.findClass "Nearplaces" = some m.cls := hown
  have hal : z.vm.Alike s.vm := hwm.alike
  have hCF : CallFix p m c cX1_isSigned 2 s [.double x].toArray lw_all "Nearplaces" := ⟨hx, hb, hml, hown, hts⟩
  have hl : lv_has ls 2 [(0, .double x)] := hl
  refine lv_dload_n hx hb dX1_isSigned_0 rfl (lv_at hl 0 rfl) ?_
  refine gcS1_lP hCF hwm hl.1 (m_digitsOf l z H0 x hx0 ) (lw_S q196 q197 q65 q198) yd_X1_digitsOf ⟨Nat.le_of_ble_eq_true rfl, Nat.le_of_ble_eq_true rfl⟩ ⟨Nat.le_of_ble_eq_true rfl, Nat.le_of_ble_eq_true rfl⟩ (Nat.le_of_ble_eq_true rfl) dX1_isSigned_1 (fun r_1 hp => ?_)
  subst hp
  refine lv_lconst (v := 0) hx hb dX1_isSigned_4 (by decide) ?_
  refine W.lcmp hx hb dX1_isSigned_5 ?_
  refine lv_if_ge (tgt := 13) hx hb dX1_isSigned_6 (by decide) (fun c_6 => ?_) (fun c_6 => ?_)
  · skip
    refine lv_iconst (v := 0) hx hb dX1_isSigned_13 (by decide) ?_
    refine g_zretP hx hb hr hlocks (rfl) ?_ dX1_isSigned_14
    have h := d_neg x
    first | (rw [show dS x = true from h.mp (Int64.lt_iff_toInt_lt.mpr (lc_lt.mp (by simpa using c_6)))]; rfl) | (rw [show dS x = false from by cases e : dS x with | false => rfl | true => exact absurd (lc_ge.mp c_6) (by have := Int64.lt_iff_toInt_lt.mp (h.mpr e); omega)]; rfl) | skip
  · skip
    refine lv_iconst (v := 1) hx hb dX1_isSigned_9 (by decide) ?_
    refine lv_goto (tgt := 14) hx hb dX1_isSigned_10 (by decide) ?_
    refine g_zretP hx hb hr hlocks (rfl) ?_ dX1_isSigned_14
    have h := d_neg x
    first | (rw [show dS x = true from h.mp (Int64.lt_iff_toInt_lt.mpr (lc_lt.mp (by simpa using c_6)))]; rfl) | (rw [show dS x = false from by cases e : dS x with | false => rfl | true => exact absurd (lc_ge.mp c_6) (by have := Int64.lt_iff_toInt_lt.mp (h.mpr e); omega)]; rfl) | skip
