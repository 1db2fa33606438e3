/-! ## walks (written by tools) -/
set_option maxRecDepth 100000
def dkwX1_lostOf_0 : List UInt8 := [38, 40, 99, 57, 4, 24, 4, 38, 103, 57, 6, 38, 24, 4, 24, 6, 103, 103, 40, 24, 6, 103, 99, 175]
abbrev dktX1_lostOf_0 : List UInt8 := dkwX1_lostOf_0 ++ []
theorem dksX1_lostOf_0 : cX1_lostOf.data.toList.drop 0 = dktX1_lostOf_0 := by decide +kernel
theorem dX1_lostOf_0 : decode cX1_lostOf 0 = .ok (.dload_n 0, 1) := dk_38 (dk_at dksX1_lostOf_0 0 rfl rfl)
theorem dX1_lostOf_1 : decode cX1_lostOf 1 = .ok (.dload_n 2, 1) := dk_40 (dk_at dksX1_lostOf_0 1 rfl rfl)
theorem dX1_lostOf_2 : decode cX1_lostOf 2 = .ok (.dadd, 1) := dk_99 (dk_at dksX1_lostOf_0 2 rfl rfl)
theorem dX1_lostOf_3 : decode cX1_lostOf 3 = .ok (.dstore 4, 2) := dk_57 4 (dk_at dksX1_lostOf_0 3 rfl rfl)
theorem dX1_lostOf_5 : decode cX1_lostOf 5 = .ok (.dload 4, 2) := dk_24 4 (dk_at dksX1_lostOf_0 5 rfl rfl)
theorem dX1_lostOf_7 : decode cX1_lostOf 7 = .ok (.dload_n 0, 1) := dk_38 (dk_at dksX1_lostOf_0 7 rfl rfl)
theorem dX1_lostOf_8 : decode cX1_lostOf 8 = .ok (.dsub, 1) := dk_103 (dk_at dksX1_lostOf_0 8 rfl rfl)
theorem dX1_lostOf_9 : decode cX1_lostOf 9 = .ok (.dstore 6, 2) := dk_57 6 (dk_at dksX1_lostOf_0 9 rfl rfl)
theorem dX1_lostOf_11 : decode cX1_lostOf 11 = .ok (.dload_n 0, 1) := dk_38 (dk_at dksX1_lostOf_0 11 rfl rfl)
theorem dX1_lostOf_12 : decode cX1_lostOf 12 = .ok (.dload 4, 2) := dk_24 4 (dk_at dksX1_lostOf_0 12 rfl rfl)
theorem dX1_lostOf_14 : decode cX1_lostOf 14 = .ok (.dload 6, 2) := dk_24 6 (dk_at dksX1_lostOf_0 14 rfl rfl)
theorem dX1_lostOf_16 : decode cX1_lostOf 16 = .ok (.dsub, 1) := dk_103 (dk_at dksX1_lostOf_0 16 rfl rfl)
theorem dX1_lostOf_17 : decode cX1_lostOf 17 = .ok (.dsub, 1) := dk_103 (dk_at dksX1_lostOf_0 17 rfl rfl)
theorem dX1_lostOf_18 : decode cX1_lostOf 18 = .ok (.dload_n 2, 1) := dk_40 (dk_at dksX1_lostOf_0 18 rfl rfl)
theorem dX1_lostOf_19 : decode cX1_lostOf 19 = .ok (.dload 6, 2) := dk_24 6 (dk_at dksX1_lostOf_0 19 rfl rfl)
theorem dX1_lostOf_21 : decode cX1_lostOf 21 = .ok (.dsub, 1) := dk_103 (dk_at dksX1_lostOf_0 21 rfl rfl)
theorem dX1_lostOf_22 : decode cX1_lostOf 22 = .ok (.dadd, 1) := dk_99 (dk_at dksX1_lostOf_0 22 rfl rfl)
theorem dX1_lostOf_23 : decode cX1_lostOf 23 = .ok (.dreturn, 1) := dk_175 (dk_at dksX1_lostOf_0 23 rfl rfl)
def dkwX1_pieceOf_2 : List UInt8 := [121, 20, 0, 150, 127, 55, 4, 38, 184, 0, 61, 153, 0, 9, 22, 4, 117, 167, 0, 5, 22, 4, 173]
abbrev dktX1_pieceOf_2 : List UInt8 := dkwX1_pieceOf_2 ++ []
def dkwX1_pieceOf_1 : List UInt8 := [29, 125, 20, 0, 150, 127, 55, 4, 29, 16, 225, 2, 184, 0, 29, 153, 0, 16, 38, 184, 0, 231, 29, 116]
abbrev dktX1_pieceOf_1 : List UInt8 := dkwX1_pieceOf_1 ++ dktX1_pieceOf_2
def dkwX1_pieceOf_0 : List UInt8 := [28, 38, 184, 1, 114, 100, 62, 9, 55, 4, 29, 3, 16, 63, 184, 0, 29, 153, 0, 15, 38, 184, 0, 231]
abbrev dktX1_pieceOf_0 : List UInt8 := dkwX1_pieceOf_0 ++ dktX1_pieceOf_1
theorem dksX1_pieceOf_0 : cX1_pieceOf.data.toList.drop 0 = dktX1_pieceOf_0 := by decide +kernel
theorem dksX1_pieceOf_1 : cX1_pieceOf.data.toList.drop 24 = dktX1_pieceOf_1 := dk_seg dksX1_pieceOf_0 24 rfl rfl
theorem dksX1_pieceOf_2 : cX1_pieceOf.data.toList.drop 48 = dktX1_pieceOf_2 := dk_seg dksX1_pieceOf_1 24 rfl rfl
theorem dX1_pieceOf_0 : decode cX1_pieceOf 0 = .ok (.iload_n 2, 1) := dk_28 (dk_at dksX1_pieceOf_0 0 rfl rfl)
theorem dX1_pieceOf_1 : decode cX1_pieceOf 1 = .ok (.dload_n 0, 1) := dk_38 (dk_at dksX1_pieceOf_0 1 rfl rfl)
theorem dX1_pieceOf_2 : decode cX1_pieceOf 2 = .ok (.invokestatic 370, 3) := dk_184 1 114 (dk_at dksX1_pieceOf_0 2 rfl rfl)
theorem dX1_pieceOf_5 : decode cX1_pieceOf 5 = .ok (.isub, 1) := dk_100 (dk_at dksX1_pieceOf_0 5 rfl rfl)
theorem dX1_pieceOf_6 : decode cX1_pieceOf 6 = .ok (.istore_n 3, 1) := dk_62 (dk_at dksX1_pieceOf_0 6 rfl rfl)
theorem dX1_pieceOf_7 : decode cX1_pieceOf 7 = .ok (.lconst 0, 1) := dk_9 (dk_at dksX1_pieceOf_0 7 rfl rfl)
theorem dX1_pieceOf_8 : decode cX1_pieceOf 8 = .ok (.lstore 4, 2) := dk_55 4 (dk_at dksX1_pieceOf_0 8 rfl rfl)
theorem dX1_pieceOf_10 : decode cX1_pieceOf 10 = .ok (.iload_n 3, 1) := dk_29 (dk_at dksX1_pieceOf_0 10 rfl rfl)
theorem dX1_pieceOf_11 : decode cX1_pieceOf 11 = .ok (.iconst 0, 1) := dk_3 (dk_at dksX1_pieceOf_0 11 rfl rfl)
theorem dX1_pieceOf_12 : decode cX1_pieceOf 12 = .ok (.bipush 63, 2) := dk_16 63 (dk_at dksX1_pieceOf_0 12 rfl rfl)
theorem dX1_pieceOf_14 : decode cX1_pieceOf 14 = .ok (.invokestatic 29, 3) := dk_184 0 29 (dk_at dksX1_pieceOf_0 14 rfl rfl)
theorem dX1_pieceOf_17 : decode cX1_pieceOf 17 = .ok (.ifCond .eq 15, 3) := dk_153 0 15 (dk_at dksX1_pieceOf_0 17 rfl rfl)
theorem dX1_pieceOf_20 : decode cX1_pieceOf 20 = .ok (.dload_n 0, 1) := dk_38 (dk_at dksX1_pieceOf_0 20 rfl rfl)
theorem dX1_pieceOf_21 : decode cX1_pieceOf 21 = .ok (.invokestatic 231, 3) := dk_184 0 231 (dk_at dksX1_pieceOf_0 21 rfl rfl)
theorem dX1_pieceOf_24 : decode cX1_pieceOf 24 = .ok (.iload_n 3, 1) := dk_29 (dk_at dksX1_pieceOf_1 0 rfl rfl)
theorem dX1_pieceOf_25 : decode cX1_pieceOf 25 = .ok (.lushr, 1) := dk_125 (dk_at dksX1_pieceOf_1 1 rfl rfl)
theorem dX1_pieceOf_26 : decode cX1_pieceOf 26 = .ok (.ldc2_w 150, 3) := dk_20 0 150 (dk_at dksX1_pieceOf_1 2 rfl rfl)
theorem dX1_pieceOf_29 : decode cX1_pieceOf 29 = .ok (.land, 1) := dk_127 (dk_at dksX1_pieceOf_1 5 rfl rfl)
theorem dX1_pieceOf_30 : decode cX1_pieceOf 30 = .ok (.lstore 4, 2) := dk_55 4 (dk_at dksX1_pieceOf_1 6 rfl rfl)
theorem dX1_pieceOf_32 : decode cX1_pieceOf 32 = .ok (.iload_n 3, 1) := dk_29 (dk_at dksX1_pieceOf_1 8 rfl rfl)
theorem dX1_pieceOf_33 : decode cX1_pieceOf 33 = .ok (.bipush (-31), 2) := dk_16 225 (dk_at dksX1_pieceOf_1 9 rfl rfl)
theorem dX1_pieceOf_35 : decode cX1_pieceOf 35 = .ok (.iconst (-1), 1) := dk_2 (dk_at dksX1_pieceOf_1 11 rfl rfl)
theorem dX1_pieceOf_36 : decode cX1_pieceOf 36 = .ok (.invokestatic 29, 3) := dk_184 0 29 (dk_at dksX1_pieceOf_1 12 rfl rfl)
theorem dX1_pieceOf_39 : decode cX1_pieceOf 39 = .ok (.ifCond .eq 16, 3) := dk_153 0 16 (dk_at dksX1_pieceOf_1 15 rfl rfl)
theorem dX1_pieceOf_42 : decode cX1_pieceOf 42 = .ok (.dload_n 0, 1) := dk_38 (dk_at dksX1_pieceOf_1 18 rfl rfl)
theorem dX1_pieceOf_43 : decode cX1_pieceOf 43 = .ok (.invokestatic 231, 3) := dk_184 0 231 (dk_at dksX1_pieceOf_1 19 rfl rfl)
theorem dX1_pieceOf_46 : decode cX1_pieceOf 46 = .ok (.iload_n 3, 1) := dk_29 (dk_at dksX1_pieceOf_1 22 rfl rfl)
theorem dX1_pieceOf_47 : decode cX1_pieceOf 47 = .ok (.ineg, 1) := dk_116 (dk_at dksX1_pieceOf_1 23 rfl rfl)
theorem dX1_pieceOf_48 : decode cX1_pieceOf 48 = .ok (.lshl, 1) := dk_121 (dk_at dksX1_pieceOf_2 0 rfl rfl)
theorem dX1_pieceOf_49 : decode cX1_pieceOf 49 = .ok (.ldc2_w 150, 3) := dk_20 0 150 (dk_at dksX1_pieceOf_2 1 rfl rfl)
theorem dX1_pieceOf_52 : decode cX1_pieceOf 52 = .ok (.land, 1) := dk_127 (dk_at dksX1_pieceOf_2 4 rfl rfl)
theorem dX1_pieceOf_53 : decode cX1_pieceOf 53 = .ok (.lstore 4, 2) := dk_55 4 (dk_at dksX1_pieceOf_2 5 rfl rfl)
theorem dX1_pieceOf_55 : decode cX1_pieceOf 55 = .ok (.dload_n 0, 1) := dk_38 (dk_at dksX1_pieceOf_2 7 rfl rfl)
theorem dX1_pieceOf_56 : decode cX1_pieceOf 56 = .ok (.invokestatic 61, 3) := dk_184 0 61 (dk_at dksX1_pieceOf_2 8 rfl rfl)
theorem dX1_pieceOf_59 : decode cX1_pieceOf 59 = .ok (.ifCond .eq 9, 3) := dk_153 0 9 (dk_at dksX1_pieceOf_2 11 rfl rfl)
theorem dX1_pieceOf_62 : decode cX1_pieceOf 62 = .ok (.lload 4, 2) := dk_22 4 (dk_at dksX1_pieceOf_2 14 rfl rfl)
theorem dX1_pieceOf_64 : decode cX1_pieceOf 64 = .ok (.lneg, 1) := dk_117 (dk_at dksX1_pieceOf_2 16 rfl rfl)
theorem dX1_pieceOf_65 : decode cX1_pieceOf 65 = .ok (.goto 5, 3) := dk_167 0 5 (dk_at dksX1_pieceOf_2 17 rfl rfl)
theorem dX1_pieceOf_68 : decode cX1_pieceOf 68 = .ok (.lload 4, 2) := dk_22 4 (dk_at dksX1_pieceOf_2 20 rfl rfl)
theorem dX1_pieceOf_70 : decode cX1_pieceOf 70 = .ok (.lreturn, 1) := dk_173 (dk_at dksX1_pieceOf_2 22 rfl rfl)
theorem yd_X1_lastOf : yX1_lastOf.cls ≠ "java/lang/invoke/MethodHandle" ∧ yX1_lastOf.cls ≠ "java/lang/invoke/VarHandle" ∧ (parseMethodDescriptor yX1_lastOf.desc).map (fun d => d.parameters.length) = some 1 := by decide +kernel
/-! ### digits of a number from a place on -/
def abv (x : UInt64) (t : Nat) : Int := (t : Int) - ((if dP x = 0 then 2046 else max (dE x) 1 - 1 : Nat) : Int)
def piece (x : UInt64) (t : Nat) : Int := sv (dS x) (dU x / 2 ^ t % 4294967296)
theorem dC_0 {x : UInt64} (h : dP x = 0) : dC x = 0 := by unfold dC dE dF; rw [h]; rfl
theorem abv_n {x : UInt64} {t : Nat} (h : dP x ≠ 0) : abv x t = (t : Int) - (dQ x : Int) := by unfold abv dQ; rw [if_neg h]; omega
theorem abv_b {x : UInt64} {t : Nat} (hx : dFin x) (ht : t ≤ 4300) : -2046 ≤ abv x t ∧ abv x t ≤ 4300 := by
  have := dE_lt hx
  unfold abv
  split <;> omega
theorem piece_in {x : UInt64} {t k : Nat} (h : abv x t = (k : Int)) : dC x / 2 ^ k = dU x / 2 ^ t := by
  by_cases h0 : dP x = 0
  · unfold dU; rw [dC_0 h0]; simp
  · rw [abv_n h0] at h
    unfold dU
    rw [show t = dQ x + k by omega, Nat.pow_add, Nat.mul_comm, Nat.mul_div_mul_left _ _ (Nat.two_pow_pos _)]
theorem piece_up {x : UInt64} {t k : Nat} (h : abv x t = -(k : Int)) : dC x * 2 ^ k = dU x / 2 ^ t := by
  by_cases h0 : dP x = 0
  · unfold dU; rw [dC_0 h0]; simp
  · rw [abv_n h0] at h
    unfold dU
    rw [show dQ x = k + t by omega, Nat.pow_add, ← Nat.mul_assoc, Nat.mul_div_cancel _ (Nat.two_pow_pos _)]
theorem piece_no {x : UInt64} {t : Nat} (h : abv x t < -31 ∨ 63 < abv x t) : dU x / 2 ^ t % 4294967296 = 0 := by
  by_cases h0 : dP x = 0
  · unfold dU; rw [dC_0 h0]; simp
  rcases h with h | h
  · rw [← piece_up (k := (-abv x t).toNat) (by omega)]
    obtain ⟨j, hj⟩ : ∃ j, (-abv x t).toNat = j + 32 := ⟨(-abv x t).toNat - 32, by omega⟩
    rw [hj, Nat.pow_add, ← Nat.mul_assoc]
    exact Nat.mul_mod_left _ _
  · rw [← piece_in (k := (abv x t).toNat) (by omega)]
    have h2 : dC x < 2 ^ 53 := by
      unfold dC
      have : dF x < 4503599627370496 := dF_lt x
      split
      · exact Nat.lt_trans this (by decide)
      · show _ < 9007199254740992; omega
    rw [Nat.div_eq_of_lt (Nat.lt_of_lt_of_le h2 (Nat.pow_le_pow_right (by decide) (by omega)))]
theorem gb_n0 {b : Bool} (h : ¬ gb b = 0) : b = true := by cases b with | true => rfl | false => exact absurd rfl h
theorem nI_toNat {i : Int} (h : 0 ≤ i) : iI i = nI i.toNat := by rw [nI_iI]; congr 1; omega
theorem lN_mask (n : Nat) : lN n &&& 4294967295 = lN (n % 4294967296) := by
  rw [wb_mod n]
  have h := wb_mask (n := n % 2 ^ 64) (k := 32) (Nat.mod_lt _ (by decide)) (by decide)
  refine Eq.trans h ?_
  congr 1
  show n % 18446744073709551616 % 4294967296 = _
  omega
theorem isIn_g {a b v : Int32} : gb (decide (a ≤ v ∧ v ≤ b)) = 0 ↔ ¬ (a ≤ v ∧ v ≤ b) := by
  rw [gb_0, decide_eq_false_iff_not]
theorem isIn_i {a b v : Int} (ha : -5000 ≤ a ∧ a ≤ 5000) (hb : -5000 ≤ b ∧ b ≤ 5000) (hv : -5000 ≤ v ∧ v ≤ 5000) : (iI a ≤ iI v ∧ iI v ≤ iI b) ↔ (a ≤ v ∧ v ≤ b) := by
  rw [iI_le (by omega) (by omega) (by omega) (by omega), iI_le (by omega) (by omega) (by omega) (by omega)]
theorem rB_ne {n : Nat} (h : n ≠ 0) : rB n 0 ≠ 0 := by
  unfold rB
  rw [if_neg h]
  by_cases hk : rk n 0 = 0
  · have : rN n 0 = n := by
      unfold rN
      rw [hk]
      simp [near_one]
    rw [hk, this]
    omega
  · omega
/-- a zero with a minus comes of zeros -/
theorem dsub_m0 {x u : UInt64} (hx : dFin x) (hu : dFin u) (hS : dS (FP.dsub x u) = true) (h0 : dP (FP.dsub x u) = 0) : dP x = 0 ∧ dS x = true ∧ dS u = false := by
  obtain ⟨h1, h2⟩ := d_of (dsub_nat hx hu) (Nat.lt_of_le_of_lt (rB_le _ _) (by decide))
  rw [h0] at h1
  have hz : dZ x - dZ u = 0 := by
    have : (dZ x - dZ u).natAbs = 0 := Decidable.byContradiction fun q => rB_ne q h1.symm
    omega
  rw [hS, hz] at h2
  have h3 : (dS x && !dS u) = true := h2.symm
  rw [Bool.and_eq_true] at h3
  have h4 : dS u = false := by simpa using h3.2
  refine ⟨dU_0.mp ?_, h3.1, h4⟩
  have e1 : dZ x = -(dU x : Int) := by unfold dZ; rw [h3.1]; rfl
  have e2 : dZ u = (dU u : Int) := by unfold dZ; rw [h4]; rfl
  omega
theorem isIn_up {v : Int} (hv : -5000 ≤ v ∧ v ≤ 5000) : (-31 ≤ iI v ∧ iI v ≤ -1) ↔ (-31 ≤ v ∧ v ≤ -1) := by
  rw [show (-31 : Int32) = iI (-31) from by decide, show (-1 : Int32) = iI (-1) from by decide]
  exact isIn_i (by omega) (by omega) hv
/-- a sum that loses nothing but a zero has no minus -/
theorem lost_S {x y : UInt64} (h : lok x y) (h0 : dZ (l4 x y) + dZ (l5 x y) = 0) : dS (lost x y) = false := by
  obtain ⟨⟨hx, hy⟩, ⟨f1, f2, f3⟩, ⟨f4, f5, f6⟩⟩ := h
  have e1 : dS (lost x y) = (dS (l4 x y) && dS (l5 x y)) := by
    rw [show lost x y = FP.dadd (l4 x y) (l5 x y) from rfl, dadd_S f4 f5, h0]
    rfl
  rw [e1]
  cases q4 : dS (l4 x y) with
  | false => rfl
  | true =>
    cases q5 : dS (l5 x y) with
    | false => rfl
    | true =>
      exfalso
      have z4 : dZ (l4 x y) = -(dU (l4 x y) : Int) := by unfold dZ; rw [q4]; rfl
      have z5 : dZ (l5 x y) = -(dU (l5 x y) : Int) := by unfold dZ; rw [q5]; rfl
      rw [z4, z5] at h0
      obtain ⟨a1, a2, a3⟩ := dsub_m0 hx f3 q4 (show dP (l4 x y) = 0 from dU_0.mp (by omega))
      obtain ⟨b1, b2, b3⟩ := dsub_m0 hy f2 q5 (show dP (l5 x y) = 0 from dU_0.mp (by omega))
      have ex : x = 9223372036854775808 := d_ext (by rw [a2]; decide) (by rw [a1]; decide)
      have ey : y = 9223372036854775808 := d_ext (by rw [b2]; decide) (by rw [b1]; decide)
      rw [ex, ey] at a3
      exact absurd a3 (by decide +kernel)

set_option maxHeartbeats 1000000 in
theorem m_lostOf (l : Launch) (z : State) (H0 : Heap) (x : UInt64) (y : UInt64)  (h : lok x y) : Met l yX1_lostOf (ws_ yX1_lostOf cX1_lostOf 8 (some .double)) { frames := 0, cells := 0, slots := 0, locals := 0 } (gPc z H0 [.double x, .double y]) (gPd H0 (fun r => r = lost x y)) 0 0 gno := by
  refine g_start (by decide +kernel) (Nat.le_of_ble_eq_true rfl) ?_
  intro p e s m below meth c ls hx hb hr hlocks hml hown hname hts hwm hl
  have hown : s.vm.findClass "Nearplaces" = some m.cls := hown
  have hal : z.vm.Alike s.vm := hwm.alike
  have hCF : CallFix p m c cX1_lostOf 8 s [.double x, .double y].toArray lw_all "Nearplaces" := ⟨hx, hb, hml, hown, hts⟩
  have hl : lv_has ls 8 [(0, .double x), (2, .double y)] := hl
  refine lv_dload_n hx hb dX1_lostOf_0 rfl (lv_at hl 0 rfl) ?_
  refine lv_dload_n hx hb dX1_lostOf_1 rfl (lv_at hl 1 rfl) ?_
  refine lv_dadd hx hb dX1_lostOf_2 (n64 h.2.1.1.num) ?_
  refine lv_dstore hx hb dX1_lostOf_3 hl (by decide) rfl (fun ls hl => ?_)
  have hl : lv_has ls 8 [(4, .double (FP.dadd x y)), (0, .double x), (2, .double y)] := hl
  refine lv_dload hx hb dX1_lostOf_5 (lv_at hl 0 rfl) ?_
  refine lv_dload_n hx hb dX1_lostOf_7 rfl (lv_at hl 1 rfl) ?_
  refine lv_dsub hx hb dX1_lostOf_8 (n64 h.2.1.2.1.num) ?_
  refine g_topd (v := (l2 x y)) (rfl) ?_
  refine lv_dstore hx hb dX1_lostOf_9 hl (by decide) rfl (fun ls hl => ?_)
  have hl : lv_has ls 8 [(6, .double (l2 x y)), (4, .double (FP.dadd x y)), (0, .double x), (2, .double y)] := hl
  refine lv_dload_n hx hb dX1_lostOf_11 rfl (lv_at hl 2 rfl) ?_
  refine lv_dload hx hb dX1_lostOf_12 (lv_at hl 1 rfl) ?_
  refine lv_dload hx hb dX1_lostOf_14 (lv_at hl 0 rfl) ?_
  refine lv_dsub hx hb dX1_lostOf_16 (n64 h.2.1.2.2.num) ?_
  refine g_topd (v := (l3 x y)) (rfl) ?_
  refine lv_dsub hx hb dX1_lostOf_17 (n64 h.2.2.1.num) ?_
  refine g_topd (v := (l4 x y)) (rfl) ?_
  refine lv_dload_n hx hb dX1_lostOf_18 rfl (lv_at hl 3 rfl) ?_
  refine lv_dload hx hb dX1_lostOf_19 (lv_at hl 0 rfl) ?_
  refine lv_dsub hx hb dX1_lostOf_21 (n64 h.2.2.2.1.num) ?_
  refine g_topd (v := (l5 x y)) (rfl) ?_
  refine lv_dadd hx hb dX1_lostOf_22 (n64 h.2.2.2.2.num) ?_
  refine g_dretP hx hb hr hlocks ?_ dX1_lostOf_23
  rfl
set_option maxHeartbeats 1000000 in
theorem m_pieceOf (l : Launch) (z : State) (H0 : Heap) (x : UInt64) (t : Nat) (hx0 : dFin x) (ht : t ≤ 4300) : Met l yX1_pieceOf (ws_ yX1_pieceOf cX1_pieceOf 6 (some .long)) { frames := 6, cells := 0, slots := 0, locals := 128 } (gPc z H0 [.double x, .int (nI t)]) (gPl H0 (fun r => r = lI (piece x t))) 0 0 gno := by
  refine g_start (by decide +kernel) (Nat.le_of_ble_eq_true rfl) ?_
  intro p e s m below meth c ls hx hb hr hlocks hml hown hname hts hwm hl
  have hown : s.vm.findClass "Nearplaces" = some m.cls := hown
  have hal : z.vm.Alike s.vm := hwm.alike
  have hCF : CallFix p m c cX1_pieceOf 6 s [.double x, .int (nI t)].toArray lw_all "Nearplaces" := ⟨hx, hb, hml, hown, hts⟩
  have hl : lv_has ls 6 [(0, .double x), (2, .int (nI t))] := hl
  have hab := abv_b hx0 ht
  refine lv_iload_n hx hb dX1_pieceOf_0 rfl (lv_at hl 1 rfl) ?_
  refine lv_dload_n hx hb dX1_pieceOf_1 rfl (lv_at hl 0 rfl) ?_
  refine gcS1_iP hCF hwm hl.1 (m_lastOf l z H0 x hx0.num ) (lw_S q2212 q2213 q65 q2214) yd_X1_lastOf ⟨Nat.le_of_ble_eq_true rfl, Nat.le_of_ble_eq_true rfl⟩ ⟨Nat.le_of_ble_eq_true rfl, Nat.le_of_ble_eq_true rfl⟩ (Nat.le_of_ble_eq_true rfl) dX1_pieceOf_2 (fun r_1 hp => ?_)
  subst hp
  refine lv_isub hx hb dX1_pieceOf_5 ?_
  refine g_topi (v := (iI (abv x t))) ?_ ?_
  · skip
    rw [nI_iI, nI_iI, iI_sub]
    rfl
  refine lv_istore_n hx hb dX1_pieceOf_6 rfl hl (by decide) rfl (fun ls hl => ?_)
  have hl : lv_has ls 6 [(3, .int (iI (abv x t))), (0, .double x), (2, .int (nI t))] := hl
  refine lv_lconst (v := 0) hx hb dX1_pieceOf_7 (by decide) ?_
  refine lv_lstore hx hb dX1_pieceOf_8 hl (by decide) rfl (fun ls hl => ?_)
  have hl : lv_has ls 6 [(4, .long 0), (3, .int (iI (abv x t))), (0, .double x), (2, .int (nI t))] := hl
  refine lv_iload_n hx hb dX1_pieceOf_10 rfl (lv_at hl 1 rfl) ?_
  refine lv_iconst (v := 0) hx hb dX1_pieceOf_11 (by decide) ?_
  refine lv_bipush (v := 63) hx hb dX1_pieceOf_12 (by decide) ?_
  refine gcS3_iP hCF hwm hl.1 (m_isIn l z H0 (iI (abv x t)) 0 63  ) (lw_S q1485 q1486 q65 q1487) yd_X1_isIn ⟨Nat.le_of_ble_eq_true rfl, Nat.le_of_ble_eq_true rfl⟩ ⟨Nat.le_of_ble_eq_true rfl, Nat.le_of_ble_eq_true rfl⟩ (Nat.le_of_ble_eq_true rfl) dX1_pieceOf_14 (fun r_2 hp => ?_)
  subst hp
  refine lv_if_eq (tgt := 32) hx hb dX1_pieceOf_17 (by decide) (fun c_17 => ?_) (fun c_17 => ?_)
  · skip
    rw [isIn_g] at c_17
    have hout : ¬ (0 ≤ abv x t ∧ abv x t ≤ 63) := fun q => c_17 ((isIn_i (a := 0) (b := 63) (by omega) (by omega) (by omega)).mpr q)
    refine lv_iload_n hx hb dX1_pieceOf_32 rfl (lv_at hl 1 rfl) ?_
    refine lv_bipush (v := -31) hx hb dX1_pieceOf_33 (by decide) ?_
    refine lv_iconst (v := -1) hx hb dX1_pieceOf_35 (by decide) ?_
    refine gcS3_iP hCF hwm hl.1 (m_isIn l z H0 (iI (abv x t)) (-31) (-1)  ) (lw_S q1485 q1486 q65 q1487) yd_X1_isIn ⟨Nat.le_of_ble_eq_true rfl, Nat.le_of_ble_eq_true rfl⟩ ⟨Nat.le_of_ble_eq_true rfl, Nat.le_of_ble_eq_true rfl⟩ (Nat.le_of_ble_eq_true rfl) dX1_pieceOf_36 (fun r_3 hp => ?_)
    subst hp
    refine lv_if_eq (tgt := 55) hx hb dX1_pieceOf_39 (by decide) (fun c_39 => ?_) (fun c_39 => ?_)
    · skip
      rw [isIn_g] at c_39
      have hno : ¬ (-31 ≤ abv x t ∧ abv x t ≤ -1) := fun q => c_39 ((isIn_i (a := -31) (b := -1) (by omega) (by omega) (by omega)).mpr q)
      refine lv_dload_n hx hb dX1_pieceOf_55 rfl (lv_at hl 2 rfl) ?_
      refine gcS1_iP hCF hwm hl.1 (m_isSigned l z H0 x hx0.num ) (lw_S q193 q194 q65 q195) yd_X1_isSigned ⟨Nat.le_of_ble_eq_true rfl, Nat.le_of_ble_eq_true rfl⟩ ⟨Nat.le_of_ble_eq_true rfl, Nat.le_of_ble_eq_true rfl⟩ (Nat.le_of_ble_eq_true rfl) dX1_pieceOf_56 (fun r_4 hp => ?_)
      subst hp
      refine lv_if_eq (tgt := 68) hx hb dX1_pieceOf_59 (by decide) (fun c_59 => ?_) (fun c_59 => ?_)
      · skip
        refine lv_lload hx hb dX1_pieceOf_68 (lv_at hl 0 rfl) ?_
        refine g_lretP hx hb hr hlocks ?_ dX1_pieceOf_70
        unfold piece
        rw [piece_no (x := x) (t := t) (by omega)]
        first | (rw [gb_0.mp c_59]; exact lN_lI _) | (rw [gb_n0 c_59]; exact neg_lN _) | (rw [gb_0.mp c_59]; rfl) | (rw [gb_n0 c_59]; rfl)
      · skip
        refine lv_lload hx hb dX1_pieceOf_62 (lv_at hl 0 rfl) ?_
        refine lv_lneg hx hb dX1_pieceOf_64 ?_
        refine lv_goto (tgt := 70) hx hb dX1_pieceOf_65 (by decide) ?_
        refine g_lretP hx hb hr hlocks ?_ dX1_pieceOf_70
        unfold piece
        rw [piece_no (x := x) (t := t) (by omega)]
        first | (rw [gb_0.mp c_59]; exact lN_lI _) | (rw [gb_n0 c_59]; exact neg_lN _) | (rw [gb_0.mp c_59]; rfl) | (rw [gb_n0 c_59]; rfl)
    · skip
      rw [isIn_g] at c_39
      have hup : -31 ≤ abv x t ∧ abv x t ≤ -1 := (isIn_i (a := -31) (b := -1) (by omega) (by omega) (by omega)).mp (Classical.not_not.mp c_39)
      refine lv_dload_n hx hb dX1_pieceOf_42 rfl (lv_at hl 2 rfl) ?_
      refine gcS1_lP hCF hwm hl.1 (m_fullOf l z H0 x hx0.num ) (lw_S q372 q373 q65 q374) yd_X1_fullOf ⟨Nat.le_of_ble_eq_true rfl, Nat.le_of_ble_eq_true rfl⟩ ⟨Nat.le_of_ble_eq_true rfl, Nat.le_of_ble_eq_true rfl⟩ (Nat.le_of_ble_eq_true rfl) dX1_pieceOf_43 (fun r_5 hp => ?_)
      subst hp
      refine lv_iload_n hx hb dX1_pieceOf_46 rfl (lv_at hl 1 rfl) ?_
      refine lv_ineg hx hb dX1_pieceOf_47 ?_
      refine g_topi (v := (nI (-abv x t).toNat)) ?_ ?_
      · skip
        rw [iI_neg]
        exact nI_toNat (by omega)
      refine lv_lshl hx hb dX1_pieceOf_48 rfl ?_
      refine g_topl (v := (lN (dC x * 2 ^ (-abv x t).toNat))) (wb_shl _ (by omega)) ?_
      refine lv_ldc2 (v := 4294967295) hx hb hown (hts _ q1909) dX1_pieceOf_49 ?_
      refine lv_land hx hb dX1_pieceOf_52 ?_
      refine g_topl (v := (lN (dC x * 2 ^ (-abv x t).toNat % 4294967296))) (lN_mask _) ?_
      refine lv_lstore hx hb dX1_pieceOf_53 hl (by decide) rfl (fun ls hl => ?_)
      have hl : lv_has ls 6 [(4, .long (lN (dC x * 2 ^ (-abv x t).toNat % 4294967296))), (3, .int (iI (abv x t))), (0, .double x), (2, .int (nI t))] := hl
      refine lv_dload_n hx hb dX1_pieceOf_55 rfl (lv_at hl 2 rfl) ?_
      refine gcS1_iP hCF hwm hl.1 (m_isSigned l z H0 x hx0.num ) (lw_S q193 q194 q65 q195) yd_X1_isSigned ⟨Nat.le_of_ble_eq_true rfl, Nat.le_of_ble_eq_true rfl⟩ ⟨Nat.le_of_ble_eq_true rfl, Nat.le_of_ble_eq_true rfl⟩ (Nat.le_of_ble_eq_true rfl) dX1_pieceOf_56 (fun r_6 hp => ?_)
      subst hp
      refine lv_if_eq (tgt := 68) hx hb dX1_pieceOf_59 (by decide) (fun c_59 => ?_) (fun c_59 => ?_)
      · skip
        refine lv_lload hx hb dX1_pieceOf_68 (lv_at hl 0 rfl) ?_
        refine g_lretP hx hb hr hlocks ?_ dX1_pieceOf_70
        unfold piece
        rw [← piece_up (x := x) (t := t) (k := (-abv x t).toNat) (by omega)]
        first | (rw [gb_0.mp c_59]; exact lN_lI _) | (rw [gb_n0 c_59]; exact neg_lN _) | (rw [gb_0.mp c_59]; rfl) | (rw [gb_n0 c_59]; rfl)
      · skip
        refine lv_lload hx hb dX1_pieceOf_62 (lv_at hl 0 rfl) ?_
        refine lv_lneg hx hb dX1_pieceOf_64 ?_
        refine lv_goto (tgt := 70) hx hb dX1_pieceOf_65 (by decide) ?_
        refine g_lretP hx hb hr hlocks ?_ dX1_pieceOf_70
        unfold piece
        rw [← piece_up (x := x) (t := t) (k := (-abv x t).toNat) (by omega)]
        first | (rw [gb_0.mp c_59]; exact lN_lI _) | (rw [gb_n0 c_59]; exact neg_lN _) | (rw [gb_0.mp c_59]; rfl) | (rw [gb_n0 c_59]; rfl)
  · skip
    rw [isIn_g] at c_17
    have hin : 0 ≤ abv x t ∧ abv x t ≤ 63 := (isIn_i (a := 0) (b := 63) (by omega) (by omega) (by omega)).mp (Classical.not_not.mp c_17)
    refine lv_dload_n hx hb dX1_pieceOf_20 rfl (lv_at hl 2 rfl) ?_
    refine gcS1_lP hCF hwm hl.1 (m_fullOf l z H0 x hx0.num ) (lw_S q372 q373 q65 q374) yd_X1_fullOf ⟨Nat.le_of_ble_eq_true rfl, Nat.le_of_ble_eq_true rfl⟩ ⟨Nat.le_of_ble_eq_true rfl, Nat.le_of_ble_eq_true rfl⟩ (Nat.le_of_ble_eq_true rfl) dX1_pieceOf_21 (fun r_7 hp => ?_)
    subst hp
    refine lv_iload_n hx hb dX1_pieceOf_24 rfl (lv_at hl 1 rfl) ?_
    refine g_topi (v := (nI (abv x t).toNat)) (nI_toNat hin.1) ?_
    refine lv_lushr hx hb dX1_pieceOf_25 rfl ?_
    refine g_topl (v := (lN (dC x / 2 ^ (abv x t).toNat))) (wb_shr (Nat.lt_trans (dC_lt hx0) (by decide)) (by omega)) ?_
    refine lv_ldc2 (v := 4294967295) hx hb hown (hts _ q1909) dX1_pieceOf_26 ?_
    refine lv_land hx hb dX1_pieceOf_29 ?_
    refine g_topl (v := (lN (dC x / 2 ^ (abv x t).toNat % 4294967296))) (lN_mask _) ?_
    refine lv_lstore hx hb dX1_pieceOf_30 hl (by decide) rfl (fun ls hl => ?_)
    have hl : lv_has ls 6 [(4, .long (lN (dC x / 2 ^ (abv x t).toNat % 4294967296))), (3, .int (iI (abv x t))), (0, .double x), (2, .int (nI t))] := hl
    refine lv_iload_n hx hb dX1_pieceOf_32 rfl (lv_at hl 1 rfl) ?_
    refine lv_bipush (v := -31) hx hb dX1_pieceOf_33 (by decide) ?_
    refine lv_iconst (v := -1) hx hb dX1_pieceOf_35 (by decide) ?_
    refine gcS3_iP hCF hwm hl.1 (m_isIn l z H0 (iI (abv x t)) (-31) (-1)  ) (lw_S q1485 q1486 q65 q1487) yd_X1_isIn ⟨Nat.le_of_ble_eq_true rfl, Nat.le_of_ble_eq_true rfl⟩ ⟨Nat.le_of_ble_eq_true rfl, Nat.le_of_ble_eq_true rfl⟩ (Nat.le_of_ble_eq_true rfl) dX1_pieceOf_36 (fun r_8 hp => ?_)
    subst hp
    refine lv_if_eq (tgt := 55) hx hb dX1_pieceOf_39 (by decide) (fun c_39 => ?_) (fun c_39 => absurd (isIn_g.mpr (fun q => by have := (isIn_up (v := abv x t) (by omega)).mp q; omega)) c_39)
    refine lv_dload_n hx hb dX1_pieceOf_55 rfl (lv_at hl 2 rfl) ?_
    refine gcS1_iP hCF hwm hl.1 (m_isSigned l z H0 x hx0.num ) (lw_S q193 q194 q65 q195) yd_X1_isSigned ⟨Nat.le_of_ble_eq_true rfl, Nat.le_of_ble_eq_true rfl⟩ ⟨Nat.le_of_ble_eq_true rfl, Nat.le_of_ble_eq_true rfl⟩ (Nat.le_of_ble_eq_true rfl) dX1_pieceOf_56 (fun r_9 hp => ?_)
    subst hp
    refine lv_if_eq (tgt := 68) hx hb dX1_pieceOf_59 (by decide) (fun c_59 => ?_) (fun c_59 => ?_)
    · skip
      refine lv_lload hx hb dX1_pieceOf_68 (lv_at hl 0 rfl) ?_
      refine g_lretP hx hb hr hlocks ?_ dX1_pieceOf_70
      unfold piece
      rw [← piece_in (x := x) (t := t) (k := (abv x t).toNat) (by omega)]
      first | (rw [gb_0.mp c_59]; exact lN_lI _) | (rw [gb_n0 c_59]; exact neg_lN _) | (rw [gb_0.mp c_59]; rfl) | (rw [gb_n0 c_59]; rfl)
    · skip
      refine lv_lload hx hb dX1_pieceOf_62 (lv_at hl 0 rfl) ?_
      refine lv_lneg hx hb dX1_pieceOf_64 ?_
      refine lv_goto (tgt := 70) hx hb dX1_pieceOf_65 (by decide) ?_
      refine g_lretP hx hb hr hlocks ?_ dX1_pieceOf_70
      unfold piece
      rw [← piece_in (x := x) (t := t) (k := (abv x t).toNat) (by omega)]
      first | (rw [gb_0.mp c_59]; exact lN_lI _) | (rw [gb_n0 c_59]; exact neg_lN _) | (rw [gb_0.mp c_59]; rfl) | (rw [gb_n0 c_59]; rfl)
