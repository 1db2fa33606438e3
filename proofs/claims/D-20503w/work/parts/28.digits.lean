/-! ## walks (written by tools) -/
set_option maxRecDepth 100000
def dkwJ16_stringSize_2 : List UInt8 := [167, 255, 229, 16, 19, 28, 96, 172]
abbrev dktJ16_stringSize_2 : List UInt8 := dkwJ16_stringSize_2 ++ []
def dkwJ16_stringSize_1 : List UInt8 := [162, 0, 26, 30, 33, 148, 158, 0, 8, 21, 5, 28, 96, 172, 20, 0, 53, 33, 105, 66, 132, 5, 1]
abbrev dktJ16_stringSize_1 : List UInt8 := dkwJ16_stringSize_1 ++ dktJ16_stringSize_2
def dkwJ16_stringSize_0 : List UInt8 := [4, 61, 30, 9, 148, 155, 0, 8, 3, 61, 30, 117, 63, 20, 0, 140, 66, 4, 54, 5, 21, 5, 16, 19]
abbrev dktJ16_stringSize_0 : List UInt8 := dkwJ16_stringSize_0 ++ dktJ16_stringSize_1
theorem dksJ16_stringSize_0 : cJ16_stringSize.data.toList.drop 0 = dktJ16_stringSize_0 := by decide +kernel
theorem dksJ16_stringSize_1 : cJ16_stringSize.data.toList.drop 24 = dktJ16_stringSize_1 := dk_seg dksJ16_stringSize_0 24 rfl rfl
theorem dksJ16_stringSize_2 : cJ16_stringSize.data.toList.drop 47 = dktJ16_stringSize_2 := dk_seg dksJ16_stringSize_1 23 rfl rfl
theorem dJ16_stringSize_0 : decode cJ16_stringSize 0 = .ok (.iconst 1, 1) := dk_4 (dk_at dksJ16_stringSize_0 0 rfl rfl)
theorem dJ16_stringSize_1 : decode cJ16_stringSize 1 = .ok (.istore_n 2, 1) := dk_61 (dk_at dksJ16_stringSize_0 1 rfl rfl)
theorem dJ16_stringSize_2 : decode cJ16_stringSize 2 = .ok (.lload_n 0, 1) := dk_30 (dk_at dksJ16_stringSize_0 2 rfl rfl)
theorem dJ16_stringSize_3 : decode cJ16_stringSize 3 = .ok (.lconst 0, 1) := dk_9 (dk_at dksJ16_stringSize_0 3 rfl rfl)
theorem dJ16_stringSize_4 : decode cJ16_stringSize 4 = .ok (.lcmp, 1) := dk_148 (dk_at dksJ16_stringSize_0 4 rfl rfl)
theorem dJ16_stringSize_5 : decode cJ16_stringSize 5 = .ok (.ifCond .lt 8, 3) := dk_155 0 8 (dk_at dksJ16_stringSize_0 5 rfl rfl)
theorem dJ16_stringSize_8 : decode cJ16_stringSize 8 = .ok (.iconst 0, 1) := dk_3 (dk_at dksJ16_stringSize_0 8 rfl rfl)
theorem dJ16_stringSize_9 : decode cJ16_stringSize 9 = .ok (.istore_n 2, 1) := dk_61 (dk_at dksJ16_stringSize_0 9 rfl rfl)
theorem dJ16_stringSize_10 : decode cJ16_stringSize 10 = .ok (.lload_n 0, 1) := dk_30 (dk_at dksJ16_stringSize_0 10 rfl rfl)
theorem dJ16_stringSize_11 : decode cJ16_stringSize 11 = .ok (.lneg, 1) := dk_117 (dk_at dksJ16_stringSize_0 11 rfl rfl)
theorem dJ16_stringSize_12 : decode cJ16_stringSize 12 = .ok (.lstore_n 0, 1) := dk_63 (dk_at dksJ16_stringSize_0 12 rfl rfl)
theorem dJ16_stringSize_13 : decode cJ16_stringSize 13 = .ok (.ldc2_w 140, 3) := dk_20 0 140 (dk_at dksJ16_stringSize_0 13 rfl rfl)
theorem dJ16_stringSize_16 : decode cJ16_stringSize 16 = .ok (.lstore_n 3, 1) := dk_66 (dk_at dksJ16_stringSize_0 16 rfl rfl)
theorem dJ16_stringSize_17 : decode cJ16_stringSize 17 = .ok (.iconst 1, 1) := dk_4 (dk_at dksJ16_stringSize_0 17 rfl rfl)
theorem dJ16_stringSize_18 : decode cJ16_stringSize 18 = .ok (.istore 5, 2) := dk_54 5 (dk_at dksJ16_stringSize_0 18 rfl rfl)
theorem dJ16_stringSize_20 : decode cJ16_stringSize 20 = .ok (.iload 5, 2) := dk_21 5 (dk_at dksJ16_stringSize_0 20 rfl rfl)
theorem dJ16_stringSize_22 : decode cJ16_stringSize 22 = .ok (.bipush 19, 2) := dk_16 19 (dk_at dksJ16_stringSize_0 22 rfl rfl)
theorem dJ16_stringSize_24 : decode cJ16_stringSize 24 = .ok (.if_icmp .ge 26, 3) := dk_162 0 26 (dk_at dksJ16_stringSize_1 0 rfl rfl)
theorem dJ16_stringSize_27 : decode cJ16_stringSize 27 = .ok (.lload_n 0, 1) := dk_30 (dk_at dksJ16_stringSize_1 3 rfl rfl)
theorem dJ16_stringSize_28 : decode cJ16_stringSize 28 = .ok (.lload_n 3, 1) := dk_33 (dk_at dksJ16_stringSize_1 4 rfl rfl)
theorem dJ16_stringSize_29 : decode cJ16_stringSize 29 = .ok (.lcmp, 1) := dk_148 (dk_at dksJ16_stringSize_1 5 rfl rfl)
theorem dJ16_stringSize_30 : decode cJ16_stringSize 30 = .ok (.ifCond .le 8, 3) := dk_158 0 8 (dk_at dksJ16_stringSize_1 6 rfl rfl)
theorem dJ16_stringSize_33 : decode cJ16_stringSize 33 = .ok (.iload 5, 2) := dk_21 5 (dk_at dksJ16_stringSize_1 9 rfl rfl)
theorem dJ16_stringSize_35 : decode cJ16_stringSize 35 = .ok (.iload_n 2, 1) := dk_28 (dk_at dksJ16_stringSize_1 11 rfl rfl)
theorem dJ16_stringSize_36 : decode cJ16_stringSize 36 = .ok (.iadd, 1) := dk_96 (dk_at dksJ16_stringSize_1 12 rfl rfl)
theorem dJ16_stringSize_37 : decode cJ16_stringSize 37 = .ok (.ireturn, 1) := dk_172 (dk_at dksJ16_stringSize_1 13 rfl rfl)
theorem dJ16_stringSize_38 : decode cJ16_stringSize 38 = .ok (.ldc2_w 53, 3) := dk_20 0 53 (dk_at dksJ16_stringSize_1 14 rfl rfl)
theorem dJ16_stringSize_41 : decode cJ16_stringSize 41 = .ok (.lload_n 3, 1) := dk_33 (dk_at dksJ16_stringSize_1 17 rfl rfl)
theorem dJ16_stringSize_42 : decode cJ16_stringSize 42 = .ok (.lmul, 1) := dk_105 (dk_at dksJ16_stringSize_1 18 rfl rfl)
theorem dJ16_stringSize_43 : decode cJ16_stringSize 43 = .ok (.lstore_n 3, 1) := dk_66 (dk_at dksJ16_stringSize_1 19 rfl rfl)
theorem dJ16_stringSize_44 : decode cJ16_stringSize 44 = .ok (.iinc 5 1, 3) := dk_132 5 1 (dk_at dksJ16_stringSize_1 20 rfl rfl)
theorem dJ16_stringSize_47 : decode cJ16_stringSize 47 = .ok (.goto (-27), 3) := dk_167 255 229 (dk_at dksJ16_stringSize_2 0 rfl rfl)
theorem dJ16_stringSize_50 : decode cJ16_stringSize 50 = .ok (.bipush 19, 2) := dk_16 19 (dk_at dksJ16_stringSize_2 3 rfl rfl)
theorem dJ16_stringSize_52 : decode cJ16_stringSize 52 = .ok (.iload_n 2, 1) := dk_28 (dk_at dksJ16_stringSize_2 5 rfl rfl)
theorem dJ16_stringSize_53 : decode cJ16_stringSize 53 = .ok (.iadd, 1) := dk_96 (dk_at dksJ16_stringSize_2 6 rfl rfl)
theorem dJ16_stringSize_54 : decode cJ16_stringSize 54 = .ok (.ireturn, 1) := dk_172 (dk_at dksJ16_stringSize_2 7 rfl rfl)
def dkwJ17_stringSize_1 : List UInt8 := [164, 0, 7, 29, 27, 96, 172, 16, 10, 28, 104, 61, 132, 3, 1, 167, 255, 233, 16, 10, 27, 96, 172]
abbrev dktJ17_stringSize_1 : List UInt8 := dkwJ17_stringSize_1 ++ []
def dkwJ17_stringSize_0 : List UInt8 := [4, 60, 26, 155, 0, 8, 3, 60, 26, 116, 59, 16, 246, 61, 4, 62, 29, 16, 10, 162, 0, 23, 26, 28]
abbrev dktJ17_stringSize_0 : List UInt8 := dkwJ17_stringSize_0 ++ dktJ17_stringSize_1
theorem dksJ17_stringSize_0 : cJ17_stringSize.data.toList.drop 0 = dktJ17_stringSize_0 := by decide +kernel
theorem dksJ17_stringSize_1 : cJ17_stringSize.data.toList.drop 24 = dktJ17_stringSize_1 := dk_seg dksJ17_stringSize_0 24 rfl rfl
theorem dJ17_stringSize_0 : decode cJ17_stringSize 0 = .ok (.iconst 1, 1) := dk_4 (dk_at dksJ17_stringSize_0 0 rfl rfl)
theorem dJ17_stringSize_1 : decode cJ17_stringSize 1 = .ok (.istore_n 1, 1) := dk_60 (dk_at dksJ17_stringSize_0 1 rfl rfl)
theorem dJ17_stringSize_2 : decode cJ17_stringSize 2 = .ok (.iload_n 0, 1) := dk_26 (dk_at dksJ17_stringSize_0 2 rfl rfl)
theorem dJ17_stringSize_3 : decode cJ17_stringSize 3 = .ok (.ifCond .lt 8, 3) := dk_155 0 8 (dk_at dksJ17_stringSize_0 3 rfl rfl)
theorem dJ17_stringSize_6 : decode cJ17_stringSize 6 = .ok (.iconst 0, 1) := dk_3 (dk_at dksJ17_stringSize_0 6 rfl rfl)
theorem dJ17_stringSize_7 : decode cJ17_stringSize 7 = .ok (.istore_n 1, 1) := dk_60 (dk_at dksJ17_stringSize_0 7 rfl rfl)
theorem dJ17_stringSize_8 : decode cJ17_stringSize 8 = .ok (.iload_n 0, 1) := dk_26 (dk_at dksJ17_stringSize_0 8 rfl rfl)
theorem dJ17_stringSize_9 : decode cJ17_stringSize 9 = .ok (.ineg, 1) := dk_116 (dk_at dksJ17_stringSize_0 9 rfl rfl)
theorem dJ17_stringSize_10 : decode cJ17_stringSize 10 = .ok (.istore_n 0, 1) := dk_59 (dk_at dksJ17_stringSize_0 10 rfl rfl)
theorem dJ17_stringSize_11 : decode cJ17_stringSize 11 = .ok (.bipush (-10), 2) := dk_16 246 (dk_at dksJ17_stringSize_0 11 rfl rfl)
theorem dJ17_stringSize_13 : decode cJ17_stringSize 13 = .ok (.istore_n 2, 1) := dk_61 (dk_at dksJ17_stringSize_0 13 rfl rfl)
theorem dJ17_stringSize_14 : decode cJ17_stringSize 14 = .ok (.iconst 1, 1) := dk_4 (dk_at dksJ17_stringSize_0 14 rfl rfl)
theorem dJ17_stringSize_15 : decode cJ17_stringSize 15 = .ok (.istore_n 3, 1) := dk_62 (dk_at dksJ17_stringSize_0 15 rfl rfl)
theorem dJ17_stringSize_16 : decode cJ17_stringSize 16 = .ok (.iload_n 3, 1) := dk_29 (dk_at dksJ17_stringSize_0 16 rfl rfl)
theorem dJ17_stringSize_17 : decode cJ17_stringSize 17 = .ok (.bipush 10, 2) := dk_16 10 (dk_at dksJ17_stringSize_0 17 rfl rfl)
theorem dJ17_stringSize_19 : decode cJ17_stringSize 19 = .ok (.if_icmp .ge 23, 3) := dk_162 0 23 (dk_at dksJ17_stringSize_0 19 rfl rfl)
theorem dJ17_stringSize_22 : decode cJ17_stringSize 22 = .ok (.iload_n 0, 1) := dk_26 (dk_at dksJ17_stringSize_0 22 rfl rfl)
theorem dJ17_stringSize_23 : decode cJ17_stringSize 23 = .ok (.iload_n 2, 1) := dk_28 (dk_at dksJ17_stringSize_0 23 rfl rfl)
theorem dJ17_stringSize_24 : decode cJ17_stringSize 24 = .ok (.if_icmp .le 7, 3) := dk_164 0 7 (dk_at dksJ17_stringSize_1 0 rfl rfl)
theorem dJ17_stringSize_27 : decode cJ17_stringSize 27 = .ok (.iload_n 3, 1) := dk_29 (dk_at dksJ17_stringSize_1 3 rfl rfl)
theorem dJ17_stringSize_28 : decode cJ17_stringSize 28 = .ok (.iload_n 1, 1) := dk_27 (dk_at dksJ17_stringSize_1 4 rfl rfl)
theorem dJ17_stringSize_29 : decode cJ17_stringSize 29 = .ok (.iadd, 1) := dk_96 (dk_at dksJ17_stringSize_1 5 rfl rfl)
theorem dJ17_stringSize_30 : decode cJ17_stringSize 30 = .ok (.ireturn, 1) := dk_172 (dk_at dksJ17_stringSize_1 6 rfl rfl)
theorem dJ17_stringSize_31 : decode cJ17_stringSize 31 = .ok (.bipush 10, 2) := dk_16 10 (dk_at dksJ17_stringSize_1 7 rfl rfl)
theorem dJ17_stringSize_33 : decode cJ17_stringSize 33 = .ok (.iload_n 2, 1) := dk_28 (dk_at dksJ17_stringSize_1 9 rfl rfl)
theorem dJ17_stringSize_34 : decode cJ17_stringSize 34 = .ok (.imul, 1) := dk_104 (dk_at dksJ17_stringSize_1 10 rfl rfl)
theorem dJ17_stringSize_35 : decode cJ17_stringSize 35 = .ok (.istore_n 2, 1) := dk_61 (dk_at dksJ17_stringSize_1 11 rfl rfl)
theorem dJ17_stringSize_36 : decode cJ17_stringSize 36 = .ok (.iinc 3 1, 3) := dk_132 3 1 (dk_at dksJ17_stringSize_1 12 rfl rfl)
theorem dJ17_stringSize_39 : decode cJ17_stringSize 39 = .ok (.goto (-23), 3) := dk_167 255 233 (dk_at dksJ17_stringSize_1 15 rfl rfl)
theorem dJ17_stringSize_42 : decode cJ17_stringSize 42 = .ok (.bipush 10, 2) := dk_16 10 (dk_at dksJ17_stringSize_1 18 rfl rfl)
theorem dJ17_stringSize_44 : decode cJ17_stringSize 44 = .ok (.iload_n 1, 1) := dk_27 (dk_at dksJ17_stringSize_1 20 rfl rfl)
theorem dJ17_stringSize_45 : decode cJ17_stringSize 45 = .ok (.iadd, 1) := dk_96 (dk_at dksJ17_stringSize_1 21 rfl rfl)
theorem dJ17_stringSize_46 : decode cJ17_stringSize 46 = .ok (.ireturn, 1) := dk_172 (dk_at dksJ17_stringSize_1 22 rfl rfl)
/-! ### a whole number's digits -/
def dg (n : Nat) : List Nat := if n < 10 then [48 + n] else dg (n / 10) ++ [48 + n % 10]
termination_by n
decreasing_by omega
def nd (n : Nat) : Nat := (dg n).length
theorem dg_lt {n : Nat} (h : n < 10) : dg n = [48 + n] := by rw [dg, if_pos h]
theorem dg_ge {n : Nat} (h : 10 ≤ n) : dg n = dg (n / 10) ++ [48 + n % 10] := by rw [dg, if_neg (by omega)]
theorem nd_lt {n : Nat} (h : n < 10) : nd n = 1 := by unfold nd; rw [dg_lt h]; rfl
theorem nd_ge {n : Nat} (h : 10 ≤ n) : nd n = nd (n / 10) + 1 := by unfold nd; rw [dg_ge h, List.length_append]; rfl
theorem nd_pos (n : Nat) : 1 ≤ nd n := by
  rcases Nat.lt_or_ge n 10 with h | h
  · rw [nd_lt h]; exact Nat.le_refl _
  · rw [nd_ge h]; omega
theorem nd_le : ∀ (n i : Nat), nd n ≤ i + 1 ↔ n < 10 ^ (i + 1) := by
  intro n
  induction n using Nat.strongRecOn with
  | ind n ih =>
    intro i
    have hp : 1 ≤ 10 ^ i := Nat.pos_of_ne_zero (by have := Nat.pow_pos (n := i) (show 0 < 10 by decide); omega)
    rcases Nat.lt_or_ge n 10 with h | h
    · rw [nd_lt h, Nat.pow_succ]
      constructor <;> intro <;> omega
    · rw [nd_ge h]
      cases i with
      | zero =>
        have := nd_pos (n / 10)
        constructor <;> intro <;> omega
      | succ i =>
        rw [show nd (n / 10) + 1 ≤ i + 1 + 1 ↔ nd (n / 10) ≤ i + 1 by omega, ih (n / 10) (by omega) i, Nat.pow_succ 10 (i + 1), Nat.div_lt_iff_lt_mul (by decide)]
theorem nd_eq {n i : Nat} (h1 : n < 10 ^ (i + 1)) (h2 : i = 0 ∨ ¬ n < 10 ^ i) : nd n = i + 1 := by
  have a := (nd_le n i).mpr h1
  rcases h2 with h2 | h2
  · have := nd_pos n
    omega
  · cases i with
    | zero => have := nd_pos n; omega
    | succ j =>
      have b : ¬ nd n ≤ j + 1 := fun q => h2 ((nd_le n j).mp q)
      clear h1 h2
      omega
theorem lI_mul {a b : Int} : lI a * lI b = lI (a * b) := by
  unfold lI
  rw [Int64.ofInt_mul]
theorem iI_mul {a b : Int} : iI a * iI b = iI (a * b) := by
  unfold iI
  rw [Int32.ofInt_mul]
/-- the minus of a number -/
def mn (v : Int) : Nat := if v < 0 then 1 else 0
theorem p10_le {i : Nat} (h : i ≤ 18) : 10 ^ i ≤ 1000000000000000000 := by
  have := Nat.pow_le_pow_right (show 1 ≤ 10 by decide) h
  exact this
theorem p10_le9 {i : Nat} (h : i ≤ 9) : 10 ^ i ≤ 1000000000 := by
  have := Nat.pow_le_pow_right (show 1 ≤ 10 by decide) h
  exact this
theorem mn_b (v : Int) : mn v ≤ 1 := by unfold mn; split <;> omega

set_option maxHeartbeats 1000000 in
theorem m_stringSizeJ (l : Launch) (z : State) (H0 : Heap)  (v : Int) (h1 : -9223372036854775808 ≤ v) (h2 : v < 9223372036854775808) : Met l yJ16_stringSize (ws_ yJ16_stringSize cJ16_stringSize 6 (some .int)) { frames := 0, cells := 0, slots := 0, locals := 0 } (gPc z H0 [.long (lI v)]) (gPi H0 (fun r => r = nI (nd v.natAbs + mn v))) 0 0 gno := by
  refine g_start (by decide +kernel) (Nat.le_of_ble_eq_true rfl) ?_
  intro p e s m below meth c ls hx hb hr hlocks hml hown hname hts hwm hl
  have hown : s.vm.findClass "java/lang/Long" = some m.cls := hown
  have hal : z.vm.Alike s.vm := hwm.alike
  have hCF : CallFix p m c cJ16_stringSize 6 s [.long (lI v)].toArray lw_all "java/lang/Long" := ⟨hx, hb, hml, hown, hts⟩
  have hl : lv_has ls 6 [(0, .long (lI v))] := hl
  refine lv_iconst (v := 1) hx hb dJ16_stringSize_0 (by decide) ?_
  refine lv_istore_n hx hb dJ16_stringSize_1 rfl hl (by decide) rfl (fun ls hl => ?_)
  have hl : lv_has ls 6 [(2, .int 1), (0, .long (lI v))] := hl
  refine lv_lload_n hx hb dJ16_stringSize_2 rfl (lv_at hl 1 rfl) ?_
  refine lv_lconst (v := 0) hx hb dJ16_stringSize_3 (by decide) ?_
  refine W.lcmp hx hb dJ16_stringSize_4 ?_
  refine lv_if_lt (tgt := 13) hx hb dJ16_stringSize_5 (by decide) (fun c_5 => ?_) (fun c_5 => ?_)
  · skip
    have hv : v < 0 := (lI_lt0 h1 h2).mp c_5
    have hmn : mn v = 1 := by unfold mn; rw [if_pos hv]
    have hl := hl
    replace hl : lv_has ls 6 [(2, .int (nI (mn v))), (0, .long (lI (-(v.natAbs : Int))))] := by
      rw [hmn, show -(v.natAbs : Int) = v by omega]
      exact hl
    clear hmn
    refine lv_ldc2 (v := -10) hx hb hown (hts _ q401) dJ16_stringSize_13 ?_
    refine g_topl (v := (lI (-(10 ^ 1 : Nat)))) (rfl) ?_
    refine lv_lstore_n hx hb dJ16_stringSize_16 rfl hl (by decide) rfl (fun ls hl => ?_)
    have hl : lv_has ls 6 [(3, .long (lI (-(10 ^ 1 : Nat)))), (2, .int (nI (mn v))), (0, .long (lI (-(v.natAbs : Int))))] := hl
    refine lv_iconst (v := 1) hx hb dJ16_stringSize_17 (by decide) ?_
    refine lv_istore hx hb dJ16_stringSize_18 hl (by decide) rfl (fun ls hl => ?_)
    have hl : lv_has ls 6 [(5, .int 1), (3, .long (lI (-(10 ^ 1 : Nat)))), (2, .int (nI (mn v))), (0, .long (lI (-(v.natAbs : Int))))] := hl
    have loop : ∀ (n_ : Nat) (i : Nat), (i ≤ 18) → (i = 0 ∨ ¬ v.natAbs < 10 ^ i) → (19 - i) < n_ → ∀ (ls : Array Slot), lv_has ls 6 [(5, .int (nI (i + 1))), (3, .long (lI (-(10 ^ (i + 1) : Nat)))), (2, .int (nI (mn v))), (0, .long (lI (-(v.natAbs : Int))))] → W p l e { frames := 0, cells := 0, slots := 0, locals := 0 } s m [.long (lI v)].toArray below meth c H0 [] 0 0 (MQ below (gPi H0 (fun r => r = nI (nd v.natAbs + mn v))) [.long (lI v)].toArray s 0 0 (gno)) (F0 m 20 ls []) := by
      intro n_
      induction n_ with
      | zero => intro i hi hj hm_; exact absurd hm_ (Nat.not_lt_zero _)
      | succ n_ ih_loop =>
        intro i hi hj hm_ ls hl
        refine lv_iload hx hb dJ16_stringSize_20 (lv_at hl 0 rfl) ?_
        refine lv_bipush (v := 19) hx hb dJ16_stringSize_22 (by decide) ?_
        refine lv_icmp_ge (tgt := 50) hx hb dJ16_stringSize_24 (by decide) (fun c_24 => ?_) (fun c_24 => ?_)
        · skip
          have hi18 : i = 18 := by
            have q := Int32.le_iff_toInt_le.mp c_24
            rw [show (19 : Int32) = iI 19 from by decide, nI_iI, iI_toInt (by omega) (by omega), iI_toInt (by omega) (by omega)] at q
            omega
          subst hi18
          refine lv_bipush (v := 19) hx hb dJ16_stringSize_50 (by decide) ?_
          refine lv_iload_n hx hb dJ16_stringSize_52 rfl (lv_at hl 2 rfl) ?_
          refine lv_iadd hx hb dJ16_stringSize_53 ?_
          refine g_iretP hx hb hr hlocks ?_ dJ16_stringSize_54
          rw [nd_eq (i := 18) (by omega) hj, show (19 : Int32) = nI 19 from by decide, nI_iI, nI_iI, nI_iI, iI_add]
          rfl
        · skip
          have hi18 : i < 18 := by
            refine Decidable.byContradiction fun q => c_24 ?_
            rw [Int32.le_iff_toInt_le, show (19 : Int32) = iI 19 from by decide, nI_iI, iI_toInt (by omega) (by omega), iI_toInt (by omega) (by omega)]
            omega
          have hp10 := p10_le (i := i + 1) (by omega)
          refine lv_lload_n hx hb dJ16_stringSize_27 rfl (lv_at hl 3 rfl) ?_
          refine lv_lload_n hx hb dJ16_stringSize_28 rfl (lv_at hl 1 rfl) ?_
          refine W.lcmp hx hb dJ16_stringSize_29 ?_
          refine lv_if_le (tgt := 38) hx hb dJ16_stringSize_30 (by decide) (fun c_30 => ?_) (fun c_30 => ?_)
          · skip
            have hj2 : ¬ v.natAbs < 10 ^ (i + 1) := by
              have q := lc_le.mp c_30
              clear hj hl
              generalize 10 ^ (i + 1) = P at *
              rw [lI_toInt (by omega) (by omega), lI_toInt (by omega) (by omega)] at q
              omega
            refine lv_ldc2 (v := 10) hx hb hown (hts _ q402) dJ16_stringSize_38 ?_
            refine lv_lload_n hx hb dJ16_stringSize_41 rfl (lv_at hl 1 rfl) ?_
            refine lv_lmul hx hb dJ16_stringSize_42 ?_
            refine g_topl (v := (lI (-(10 ^ (i + 1 + 1) : Nat)))) ?_ ?_
            · skip
              rw [show (10 : Int64) = lI 10 from by decide, lI_mul, Nat.pow_succ 10 (i + 1)]
              congr 1
              generalize 10 ^ (i + 1) = P
              omega
            refine lv_lstore_n hx hb dJ16_stringSize_43 rfl hl (by decide) rfl (fun ls hl => ?_)
            have hl : lv_has ls 6 [(3, .long (lI (-(10 ^ (i + 1 + 1) : Nat)))), (5, .int (nI (i + 1))), (2, .int (nI (mn v))), (0, .long (lI (-(v.natAbs : Int))))] := hl
            refine lv_iinc (k := 1) (v := (nI (i + 1 + 1))) hx hb dJ16_stringSize_44 hl rfl (by rw [show Int32.ofInt 1 = iI 1 from rfl, nI_iI, iI_add]; rfl) (by decide) rfl (fun ls hl => ?_)
            have hl : lv_has ls 6 [(5, .int (nI (i + 1 + 1))), (3, .long (lI (-(10 ^ (i + 1 + 1) : Nat)))), (2, .int (nI (mn v))), (0, .long (lI (-(v.natAbs : Int))))] := hl
            refine lv_goto (tgt := 20) hx hb dJ16_stringSize_47 (by decide) ?_
            exact ih_loop (i + 1) (by omega) (Or.inr hj2) (by omega) ls (lv_sub hl [0, 1, 2, 3] rfl)
          · skip
            have hj2 : v.natAbs < 10 ^ (i + 1) := by
              refine Decidable.byContradiction fun q => c_30 (lc_le.mpr ?_)
              clear c_30 hj hl
              generalize 10 ^ (i + 1) = P at *
              rw [lI_toInt (by omega) (by omega), lI_toInt (by omega) (by omega)]
              omega
            refine lv_iload hx hb dJ16_stringSize_33 (lv_at hl 0 rfl) ?_
            refine lv_iload_n hx hb dJ16_stringSize_35 rfl (lv_at hl 2 rfl) ?_
            refine lv_iadd hx hb dJ16_stringSize_36 ?_
            refine g_iretP hx hb hr hlocks ?_ dJ16_stringSize_37
            rw [nd_eq hj2 hj, nI_iI, nI_iI, nI_iI, iI_add]
            rfl
    exact loop _ 0 (by omega) (Or.inl rfl) (Nat.lt_succ_self _) ls (lv_sub hl [0, 1, 2, 3] rfl)
  · skip
    have hv : ¬ v < 0 := fun q => c_5 ((lI_lt0 h1 h2).mpr q)
    refine lv_iconst (v := 0) hx hb dJ16_stringSize_8 (by decide) ?_
    refine lv_istore_n hx hb dJ16_stringSize_9 rfl hl (by decide) rfl (fun ls hl => ?_)
    have hl : lv_has ls 6 [(2, .int 0), (0, .long (lI v))] := hl
    refine lv_lload_n hx hb dJ16_stringSize_10 rfl (lv_at hl 1 rfl) ?_
    refine lv_lneg hx hb dJ16_stringSize_11 ?_
    refine g_topl (v := (lI (-(v.natAbs : Int)))) ?_ ?_
    · skip
      rw [neg_lI]
      congr 1
      omega
    refine lv_lstore_n hx hb dJ16_stringSize_12 rfl hl (by decide) rfl (fun ls hl => ?_)
    have hl : lv_has ls 6 [(0, .long (lI (-(v.natAbs : Int)))), (2, .int 0)] := hl
    have hmn : mn v = 0 := by unfold mn; rw [if_neg hv]
    have hl := hl
    replace hl : lv_has ls 6 [(0, .long (lI (-(v.natAbs : Int)))), (2, .int (nI (mn v)))] := by
      rw [hmn]
      exact hl
    clear hmn
    refine lv_ldc2 (v := -10) hx hb hown (hts _ q401) dJ16_stringSize_13 ?_
    refine g_topl (v := (lI (-(10 ^ 1 : Nat)))) (rfl) ?_
    refine lv_lstore_n hx hb dJ16_stringSize_16 rfl hl (by decide) rfl (fun ls hl => ?_)
    have hl : lv_has ls 6 [(3, .long (lI (-(10 ^ 1 : Nat)))), (0, .long (lI (-(v.natAbs : Int)))), (2, .int (nI (mn v)))] := hl
    refine lv_iconst (v := 1) hx hb dJ16_stringSize_17 (by decide) ?_
    refine lv_istore hx hb dJ16_stringSize_18 hl (by decide) rfl (fun ls hl => ?_)
    have hl : lv_has ls 6 [(5, .int 1), (3, .long (lI (-(10 ^ 1 : Nat)))), (0, .long (lI (-(v.natAbs : Int)))), (2, .int (nI (mn v)))] := hl
    have loop : ∀ (n_ : Nat) (i : Nat), (i ≤ 18) → (i = 0 ∨ ¬ v.natAbs < 10 ^ i) → (19 - i) < n_ → ∀ (ls : Array Slot), lv_has ls 6 [(5, .int (nI (i + 1))), (3, .long (lI (-(10 ^ (i + 1) : Nat)))), (0, .long (lI (-(v.natAbs : Int)))), (2, .int (nI (mn v)))] → W p l e { frames := 0, cells := 0, slots := 0, locals := 0 } s m [.long (lI v)].toArray below meth c H0 [] 0 0 (MQ below (gPi H0 (fun r => r = nI (nd v.natAbs + mn v))) [.long (lI v)].toArray s 0 0 (gno)) (F0 m 20 ls []) := by
      intro n_
      induction n_ with
      | zero => intro i hi hj hm_; exact absurd hm_ (Nat.not_lt_zero _)
      | succ n_ ih_loop =>
        intro i hi hj hm_ ls hl
        refine lv_iload hx hb dJ16_stringSize_20 (lv_at hl 0 rfl) ?_
        refine lv_bipush (v := 19) hx hb dJ16_stringSize_22 (by decide) ?_
        refine lv_icmp_ge (tgt := 50) hx hb dJ16_stringSize_24 (by decide) (fun c_24 => ?_) (fun c_24 => ?_)
        · skip
          have hi18 : i = 18 := by
            have q := Int32.le_iff_toInt_le.mp c_24
            rw [show (19 : Int32) = iI 19 from by decide, nI_iI, iI_toInt (by omega) (by omega), iI_toInt (by omega) (by omega)] at q
            omega
          subst hi18
          refine lv_bipush (v := 19) hx hb dJ16_stringSize_50 (by decide) ?_
          refine lv_iload_n hx hb dJ16_stringSize_52 rfl (lv_at hl 3 rfl) ?_
          refine lv_iadd hx hb dJ16_stringSize_53 ?_
          refine g_iretP hx hb hr hlocks ?_ dJ16_stringSize_54
          rw [nd_eq (i := 18) (by omega) hj, show (19 : Int32) = nI 19 from by decide, nI_iI, nI_iI, nI_iI, iI_add]
          rfl
        · skip
          have hi18 : i < 18 := by
            refine Decidable.byContradiction fun q => c_24 ?_
            rw [Int32.le_iff_toInt_le, show (19 : Int32) = iI 19 from by decide, nI_iI, iI_toInt (by omega) (by omega), iI_toInt (by omega) (by omega)]
            omega
          have hp10 := p10_le (i := i + 1) (by omega)
          refine lv_lload_n hx hb dJ16_stringSize_27 rfl (lv_at hl 2 rfl) ?_
          refine lv_lload_n hx hb dJ16_stringSize_28 rfl (lv_at hl 1 rfl) ?_
          refine W.lcmp hx hb dJ16_stringSize_29 ?_
          refine lv_if_le (tgt := 38) hx hb dJ16_stringSize_30 (by decide) (fun c_30 => ?_) (fun c_30 => ?_)
          · skip
            have hj2 : ¬ v.natAbs < 10 ^ (i + 1) := by
              have q := lc_le.mp c_30
              clear hj hl
              generalize 10 ^ (i + 1) = P at *
              rw [lI_toInt (by omega) (by omega), lI_toInt (by omega) (by omega)] at q
              omega
            refine lv_ldc2 (v := 10) hx hb hown (hts _ q402) dJ16_stringSize_38 ?_
            refine lv_lload_n hx hb dJ16_stringSize_41 rfl (lv_at hl 1 rfl) ?_
            refine lv_lmul hx hb dJ16_stringSize_42 ?_
            refine g_topl (v := (lI (-(10 ^ (i + 1 + 1) : Nat)))) ?_ ?_
            · skip
              rw [show (10 : Int64) = lI 10 from by decide, lI_mul, Nat.pow_succ 10 (i + 1)]
              congr 1
              generalize 10 ^ (i + 1) = P
              omega
            refine lv_lstore_n hx hb dJ16_stringSize_43 rfl hl (by decide) rfl (fun ls hl => ?_)
            have hl : lv_has ls 6 [(3, .long (lI (-(10 ^ (i + 1 + 1) : Nat)))), (5, .int (nI (i + 1))), (0, .long (lI (-(v.natAbs : Int)))), (2, .int (nI (mn v)))] := hl
            refine lv_iinc (k := 1) (v := (nI (i + 1 + 1))) hx hb dJ16_stringSize_44 hl rfl (by rw [show Int32.ofInt 1 = iI 1 from rfl, nI_iI, iI_add]; rfl) (by decide) rfl (fun ls hl => ?_)
            have hl : lv_has ls 6 [(5, .int (nI (i + 1 + 1))), (3, .long (lI (-(10 ^ (i + 1 + 1) : Nat)))), (0, .long (lI (-(v.natAbs : Int)))), (2, .int (nI (mn v)))] := hl
            refine lv_goto (tgt := 20) hx hb dJ16_stringSize_47 (by decide) ?_
            exact ih_loop (i + 1) (by omega) (Or.inr hj2) (by omega) ls (lv_sub hl [0, 1, 2, 3] rfl)
          · skip
            have hj2 : v.natAbs < 10 ^ (i + 1) := by
              refine Decidable.byContradiction fun q => c_30 (lc_le.mpr ?_)
              clear c_30 hj hl
              generalize 10 ^ (i + 1) = P at *
              rw [lI_toInt (by omega) (by omega), lI_toInt (by omega) (by omega)]
              omega
            refine lv_iload hx hb dJ16_stringSize_33 (lv_at hl 0 rfl) ?_
            refine lv_iload_n hx hb dJ16_stringSize_35 rfl (lv_at hl 3 rfl) ?_
            refine lv_iadd hx hb dJ16_stringSize_36 ?_
            refine g_iretP hx hb hr hlocks ?_ dJ16_stringSize_37
            rw [nd_eq hj2 hj, nI_iI, nI_iI, nI_iI, iI_add]
            rfl
    exact loop _ 0 (by omega) (Or.inl rfl) (Nat.lt_succ_self _) ls (lv_sub hl [0, 1, 2, 3] rfl)
set_option maxHeartbeats 1000000 in
theorem m_stringSizeI (l : Launch) (z : State) (H0 : Heap)  (v : Int) (h1 : -2147483648 ≤ v) (h2 : v < 2147483648) : Met l yJ17_stringSize (ws_ yJ17_stringSize cJ17_stringSize 4 (some .int)) { frames := 0, cells := 0, slots := 0, locals := 0 } (gPc z H0 [.int (iI v)]) (gPi H0 (fun r => r = nI (nd v.natAbs + mn v))) 0 0 gno := by
  refine g_start (by decide +kernel) (Nat.le_of_ble_eq_true rfl) ?_
  intro p e s m below meth c ls hx hb hr hlocks hml hown hname hts hwm hl
  have hown : s.vm.findClass "java/lang/Integer" = some m.cls := hown
  have hal : z.vm.Alike s.vm := hwm.alike
  have hCF : CallFix p m c cJ17_stringSize 4 s [.int (iI v)].toArray lw_all "java/lang/Integer" := ⟨hx, hb, hml, hown, hts⟩
  have hl : lv_has ls 4 [(0, .int (iI v))] := hl
  refine lv_iconst (v := 1) hx hb dJ17_stringSize_0 (by decide) ?_
  refine lv_istore_n hx hb dJ17_stringSize_1 rfl hl (by decide) rfl (fun ls hl => ?_)
  have hl : lv_has ls 4 [(1, .int 1), (0, .int (iI v))] := hl
  refine lv_iload_n hx hb dJ17_stringSize_2 rfl (lv_at hl 1 rfl) ?_
  refine lv_if_lt (tgt := 11) hx hb dJ17_stringSize_3 (by decide) (fun c_3 => ?_) (fun c_3 => ?_)
  · skip
    have hv : v < 0 := by rw [Int32.lt_iff_toInt_lt, iI_toInt h1 h2] at c_3; exact c_3
    have hmn : mn v = 1 := by unfold mn; rw [if_pos hv]
    have hl := hl
    replace hl : lv_has ls 4 [(1, .int (nI (mn v))), (0, .int (iI (-(v.natAbs : Int))))] := by
      rw [hmn, show -(v.natAbs : Int) = v by omega]
      exact hl
    clear hmn
    refine lv_bipush (v := -10) hx hb dJ17_stringSize_11 (by decide) ?_
    refine g_topi (v := (iI (-(10 ^ 1 : Nat)))) (rfl) ?_
    refine lv_istore_n hx hb dJ17_stringSize_13 rfl hl (by decide) rfl (fun ls hl => ?_)
    have hl : lv_has ls 4 [(2, .int (iI (-(10 ^ 1 : Nat)))), (1, .int (nI (mn v))), (0, .int (iI (-(v.natAbs : Int))))] := hl
    refine lv_iconst (v := 1) hx hb dJ17_stringSize_14 (by decide) ?_
    refine lv_istore_n hx hb dJ17_stringSize_15 rfl hl (by decide) rfl (fun ls hl => ?_)
    have hl : lv_has ls 4 [(3, .int 1), (2, .int (iI (-(10 ^ 1 : Nat)))), (1, .int (nI (mn v))), (0, .int (iI (-(v.natAbs : Int))))] := hl
    have loop : ∀ (n_ : Nat) (i : Nat), (i ≤ 9) → (i = 0 ∨ ¬ v.natAbs < 10 ^ i) → (10 - i) < n_ → ∀ (ls : Array Slot), lv_has ls 4 [(3, .int (nI (i + 1))), (2, .int (iI (-(10 ^ (i + 1) : Nat)))), (1, .int (nI (mn v))), (0, .int (iI (-(v.natAbs : Int))))] → W p l e { frames := 0, cells := 0, slots := 0, locals := 0 } s m [.int (iI v)].toArray below meth c H0 [] 0 0 (MQ below (gPi H0 (fun r => r = nI (nd v.natAbs + mn v))) [.int (iI v)].toArray s 0 0 (gno)) (F0 m 16 ls []) := by
      intro n_
      induction n_ with
      | zero => intro i hi hj hm_; exact absurd hm_ (Nat.not_lt_zero _)
      | succ n_ ih_loop =>
        intro i hi hj hm_ ls hl
        refine lv_iload_n hx hb dJ17_stringSize_16 rfl (lv_at hl 0 rfl) ?_
        refine lv_bipush (v := 10) hx hb dJ17_stringSize_17 (by decide) ?_
        refine lv_icmp_ge (tgt := 42) hx hb dJ17_stringSize_19 (by decide) (fun c_19 => ?_) (fun c_19 => ?_)
        · skip
          have hi9 : i = 9 := by
            have q := Int32.le_iff_toInt_le.mp c_19
            rw [show (10 : Int32) = iI 10 from by decide, nI_iI, iI_toInt (by omega) (by omega), iI_toInt (by omega) (by omega)] at q
            omega
          subst hi9
          refine lv_bipush (v := 10) hx hb dJ17_stringSize_42 (by decide) ?_
          refine lv_iload_n hx hb dJ17_stringSize_44 rfl (lv_at hl 2 rfl) ?_
          refine lv_iadd hx hb dJ17_stringSize_45 ?_
          refine g_iretP hx hb hr hlocks ?_ dJ17_stringSize_46
          rw [nd_eq (i := 9) (by omega) hj, show (10 : Int32) = nI 10 from by decide, nI_iI, nI_iI, nI_iI, iI_add]
          rfl
        · skip
          have hi9 : i < 9 := by
            refine Decidable.byContradiction fun q => c_19 ?_
            rw [Int32.le_iff_toInt_le, show (10 : Int32) = iI 10 from by decide, nI_iI, iI_toInt (by omega) (by omega), iI_toInt (by omega) (by omega)]
            omega
          have hp10 := p10_le9 (i := i + 1) (by omega)
          refine lv_iload_n hx hb dJ17_stringSize_22 rfl (lv_at hl 3 rfl) ?_
          refine lv_iload_n hx hb dJ17_stringSize_23 rfl (lv_at hl 1 rfl) ?_
          refine lv_icmp_le (tgt := 31) hx hb dJ17_stringSize_24 (by decide) (fun c_24 => ?_) (fun c_24 => ?_)
          · skip
            have hj2 : ¬ v.natAbs < 10 ^ (i + 1) := by
              have q := Int32.le_iff_toInt_le.mp c_24
              clear hj hl
              generalize 10 ^ (i + 1) = P at *
              rw [iI_toInt (by omega) (by omega), iI_toInt (by omega) (by omega)] at q
              omega
            refine lv_bipush (v := 10) hx hb dJ17_stringSize_31 (by decide) ?_
            refine lv_iload_n hx hb dJ17_stringSize_33 rfl (lv_at hl 1 rfl) ?_
            refine lv_imul hx hb dJ17_stringSize_34 ?_
            refine g_topi (v := (iI (-(10 ^ (i + 1 + 1) : Nat)))) ?_ ?_
            · skip
              rw [show (10 : Int32) = iI 10 from by decide, iI_mul, Nat.pow_succ 10 (i + 1)]
              congr 1
              generalize 10 ^ (i + 1) = P
              omega
            refine lv_istore_n hx hb dJ17_stringSize_35 rfl hl (by decide) rfl (fun ls hl => ?_)
            have hl : lv_has ls 4 [(2, .int (iI (-(10 ^ (i + 1 + 1) : Nat)))), (3, .int (nI (i + 1))), (1, .int (nI (mn v))), (0, .int (iI (-(v.natAbs : Int))))] := hl
            refine lv_iinc (k := 1) (v := (nI (i + 1 + 1))) hx hb dJ17_stringSize_36 hl rfl (by rw [show Int32.ofInt 1 = iI 1 from rfl, nI_iI, iI_add]; rfl) (by decide) rfl (fun ls hl => ?_)
            have hl : lv_has ls 4 [(3, .int (nI (i + 1 + 1))), (2, .int (iI (-(10 ^ (i + 1 + 1) : Nat)))), (1, .int (nI (mn v))), (0, .int (iI (-(v.natAbs : Int))))] := hl
            refine lv_goto (tgt := 16) hx hb dJ17_stringSize_39 (by decide) ?_
            exact ih_loop (i + 1) (by omega) (Or.inr hj2) (by omega) ls (lv_sub hl [0, 1, 2, 3] rfl)
          · skip
            have hj2 : v.natAbs < 10 ^ (i + 1) := by
              refine Decidable.byContradiction fun q => c_24 (Int32.le_iff_toInt_le.mpr ?_)
              clear c_24 hj hl
              generalize 10 ^ (i + 1) = P at *
              rw [iI_toInt (by omega) (by omega), iI_toInt (by omega) (by omega)]
              omega
            refine lv_iload_n hx hb dJ17_stringSize_27 rfl (lv_at hl 0 rfl) ?_
            refine lv_iload_n hx hb dJ17_stringSize_28 rfl (lv_at hl 2 rfl) ?_
            refine lv_iadd hx hb dJ17_stringSize_29 ?_
            refine g_iretP hx hb hr hlocks ?_ dJ17_stringSize_30
            rw [nd_eq hj2 hj, nI_iI, nI_iI, nI_iI, iI_add]
            rfl
    exact loop _ 0 (by omega) (Or.inl rfl) (Nat.lt_succ_self _) ls (lv_sub hl [0, 1, 2, 3] rfl)
  · skip
    have hv : ¬ v < 0 := fun q => c_3 (by rw [Int32.lt_iff_toInt_lt, iI_toInt h1 h2]; exact q)
    refine lv_iconst (v := 0) hx hb dJ17_stringSize_6 (by decide) ?_
    refine lv_istore_n hx hb dJ17_stringSize_7 rfl hl (by decide) rfl (fun ls hl => ?_)
    have hl : lv_has ls 4 [(1, .int 0), (0, .int (iI v))] := hl
    refine lv_iload_n hx hb dJ17_stringSize_8 rfl (lv_at hl 1 rfl) ?_
    refine lv_ineg hx hb dJ17_stringSize_9 ?_
    refine g_topi (v := (iI (-(v.natAbs : Int)))) ?_ ?_
    · skip
      rw [iI_neg]
      congr 1
      omega
    refine lv_istore_n hx hb dJ17_stringSize_10 rfl hl (by decide) rfl (fun ls hl => ?_)
    have hl : lv_has ls 4 [(0, .int (iI (-(v.natAbs : Int)))), (1, .int 0)] := hl
    have hmn : mn v = 0 := by unfold mn; rw [if_neg hv]
    have hl := hl
    replace hl : lv_has ls 4 [(0, .int (iI (-(v.natAbs : Int)))), (1, .int (nI (mn v)))] := by
      rw [hmn]
      exact hl
    clear hmn
    refine lv_bipush (v := -10) hx hb dJ17_stringSize_11 (by decide) ?_
    refine g_topi (v := (iI (-(10 ^ 1 : Nat)))) (rfl) ?_
    refine lv_istore_n hx hb dJ17_stringSize_13 rfl hl (by decide) rfl (fun ls hl => ?_)
    have hl : lv_has ls 4 [(2, .int (iI (-(10 ^ 1 : Nat)))), (0, .int (iI (-(v.natAbs : Int)))), (1, .int (nI (mn v)))] := hl
    refine lv_iconst (v := 1) hx hb dJ17_stringSize_14 (by decide) ?_
    refine lv_istore_n hx hb dJ17_stringSize_15 rfl hl (by decide) rfl (fun ls hl => ?_)
    have hl : lv_has ls 4 [(3, .int 1), (2, .int (iI (-(10 ^ 1 : Nat)))), (0, .int (iI (-(v.natAbs : Int)))), (1, .int (nI (mn v)))] := hl
    have loop : ∀ (n_ : Nat) (i : Nat), (i ≤ 9) → (i = 0 ∨ ¬ v.natAbs < 10 ^ i) → (10 - i) < n_ → ∀ (ls : Array Slot), lv_has ls 4 [(3, .int (nI (i + 1))), (2, .int (iI (-(10 ^ (i + 1) : Nat)))), (0, .int (iI (-(v.natAbs : Int)))), (1, .int (nI (mn v)))] → W p l e { frames := 0, cells := 0, slots := 0, locals := 0 } s m [.int (iI v)].toArray below meth c H0 [] 0 0 (MQ below (gPi H0 (fun r => r = nI (nd v.natAbs + mn v))) [.int (iI v)].toArray s 0 0 (gno)) (F0 m 16 ls []) := by
      intro n_
      induction n_ with
      | zero => intro i hi hj hm_; exact absurd hm_ (Nat.not_lt_zero _)
      | succ n_ ih_loop =>
        intro i hi hj hm_ ls hl
        refine lv_iload_n hx hb dJ17_stringSize_16 rfl (lv_at hl 0 rfl) ?_
        refine lv_bipush (v := 10) hx hb dJ17_stringSize_17 (by decide) ?_
        refine lv_icmp_ge (tgt := 42) hx hb dJ17_stringSize_19 (by decide) (fun c_19 => ?_) (fun c_19 => ?_)
        · skip
          have hi9 : i = 9 := by
            have q := Int32.le_iff_toInt_le.mp c_19
            rw [show (10 : Int32) = iI 10 from by decide, nI_iI, iI_toInt (by omega) (by omega), iI_toInt (by omega) (by omega)] at q
            omega
          subst hi9
          refine lv_bipush (v := 10) hx hb dJ17_stringSize_42 (by decide) ?_
          refine lv_iload_n hx hb dJ17_stringSize_44 rfl (lv_at hl 3 rfl) ?_
          refine lv_iadd hx hb dJ17_stringSize_45 ?_
          refine g_iretP hx hb hr hlocks ?_ dJ17_stringSize_46
          rw [nd_eq (i := 9) (by omega) hj, show (10 : Int32) = nI 10 from by decide, nI_iI, nI_iI, nI_iI, iI_add]
          rfl
        · skip
          have hi9 : i < 9 := by
            refine Decidable.byContradiction fun q => c_19 ?_
            rw [Int32.le_iff_toInt_le, show (10 : Int32) = iI 10 from by decide, nI_iI, iI_toInt (by omega) (by omega), iI_toInt (by omega) (by omega)]
            omega
          have hp10 := p10_le9 (i := i + 1) (by omega)
          refine lv_iload_n hx hb dJ17_stringSize_22 rfl (lv_at hl 2 rfl) ?_
          refine lv_iload_n hx hb dJ17_stringSize_23 rfl (lv_at hl 1 rfl) ?_
          refine lv_icmp_le (tgt := 31) hx hb dJ17_stringSize_24 (by decide) (fun c_24 => ?_) (fun c_24 => ?_)
          · skip
            have hj2 : ¬ v.natAbs < 10 ^ (i + 1) := by
              have q := Int32.le_iff_toInt_le.mp c_24
              clear hj hl
              generalize 10 ^ (i + 1) = P at *
              rw [iI_toInt (by omega) (by omega), iI_toInt (by omega) (by omega)] at q
              omega
            refine lv_bipush (v := 10) hx hb dJ17_stringSize_31 (by decide) ?_
            refine lv_iload_n hx hb dJ17_stringSize_33 rfl (lv_at hl 1 rfl) ?_
            refine lv_imul hx hb dJ17_stringSize_34 ?_
            refine g_topi (v := (iI (-(10 ^ (i + 1 + 1) : Nat)))) ?_ ?_
            · skip
              rw [show (10 : Int32) = iI 10 from by decide, iI_mul, Nat.pow_succ 10 (i + 1)]
              congr 1
              generalize 10 ^ (i + 1) = P
              omega
            refine lv_istore_n hx hb dJ17_stringSize_35 rfl hl (by decide) rfl (fun ls hl => ?_)
            have hl : lv_has ls 4 [(2, .int (iI (-(10 ^ (i + 1 + 1) : Nat)))), (3, .int (nI (i + 1))), (0, .int (iI (-(v.natAbs : Int)))), (1, .int (nI (mn v)))] := hl
            refine lv_iinc (k := 1) (v := (nI (i + 1 + 1))) hx hb dJ17_stringSize_36 hl rfl (by rw [show Int32.ofInt 1 = iI 1 from rfl, nI_iI, iI_add]; rfl) (by decide) rfl (fun ls hl => ?_)
            have hl : lv_has ls 4 [(3, .int (nI (i + 1 + 1))), (2, .int (iI (-(10 ^ (i + 1 + 1) : Nat)))), (0, .int (iI (-(v.natAbs : Int)))), (1, .int (nI (mn v)))] := hl
            refine lv_goto (tgt := 16) hx hb dJ17_stringSize_39 (by decide) ?_
            exact ih_loop (i + 1) (by omega) (Or.inr hj2) (by omega) ls (lv_sub hl [0, 1, 2, 3] rfl)
          · skip
            have hj2 : v.natAbs < 10 ^ (i + 1) := by
              refine Decidable.byContradiction fun q => c_24 (Int32.le_iff_toInt_le.mpr ?_)
              clear c_24 hj hl
              generalize 10 ^ (i + 1) = P at *
              rw [iI_toInt (by omega) (by omega), iI_toInt (by omega) (by omega)]
              omega
            refine lv_iload_n hx hb dJ17_stringSize_27 rfl (lv_at hl 0 rfl) ?_
            refine lv_iload_n hx hb dJ17_stringSize_28 rfl (lv_at hl 3 rfl) ?_
            refine lv_iadd hx hb dJ17_stringSize_29 ?_
            refine g_iretP hx hb hr hlocks ?_ dJ17_stringSize_30
            rw [nd_eq hj2 hj, nI_iI, nI_iI, nI_iI, iI_add]
            rfl
    exact loop _ 0 (by omega) (Or.inl rfl) (Nat.lt_succ_self _) ls (lv_sub hl [0, 1, 2, 3] rfl)
