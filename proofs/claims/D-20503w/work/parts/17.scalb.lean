/-! ## walks (written by tools) -/
set_option maxRecDepth 100000
def dkwJ12_scalb_4 : List UInt8 := [153, 0, 16, 38, 24, 6, 107, 71, 28, 21, 5, 100, 61, 167, 255, 242, 38, 175]
abbrev dktJ12_scalb_4 : List UInt8 := dkwJ12_scalb_4 ++ []
def dkwJ12_scalb_3 : List UInt8 := [17, 1, 255, 126, 21, 8, 100, 54, 4, 38, 21, 4, 184, 1, 30, 107, 71, 28, 21, 4, 100, 61, 28]
abbrev dktJ12_scalb_3 : List UInt8 := dkwJ12_scalb_3 ++ dktJ12_scalb_4
def dkwJ12_scalb_2 : List UInt8 := [61, 17, 2, 0, 54, 5, 178, 1, 86, 57, 6, 28, 16, 8, 122, 16, 23, 124, 54, 8, 28, 21, 8, 96]
abbrev dktJ12_scalb_2 : List UInt8 := dkwJ12_scalb_2 ++ dktJ12_scalb_3
def dkwJ12_scalb_1 : List UInt8 := [184, 1, 77, 61, 17, 254, 0, 54, 5, 178, 1, 80, 57, 6, 167, 0, 21, 28, 17, 8, 51, 184, 1, 84]
abbrev dktJ12_scalb_1 : List UInt8 := dkwJ12_scalb_1 ++ dktJ12_scalb_2
def dkwJ12_scalb_0 : List UInt8 := [17, 8, 51, 62, 3, 54, 4, 3, 54, 5, 20, 0, 238, 57, 6, 28, 156, 0, 24, 28, 17, 247, 205]
abbrev dktJ12_scalb_0 : List UInt8 := dkwJ12_scalb_0 ++ dktJ12_scalb_1
theorem dksJ12_scalb_0 : cJ12_scalb.data.toList.drop 0 = dktJ12_scalb_0 := by decide +kernel
theorem dksJ12_scalb_1 : cJ12_scalb.data.toList.drop 23 = dktJ12_scalb_1 := dk_seg dksJ12_scalb_0 23 rfl rfl
theorem dksJ12_scalb_2 : cJ12_scalb.data.toList.drop 47 = dktJ12_scalb_2 := dk_seg dksJ12_scalb_1 24 rfl rfl
theorem dksJ12_scalb_3 : cJ12_scalb.data.toList.drop 71 = dktJ12_scalb_3 := dk_seg dksJ12_scalb_2 24 rfl rfl
theorem dksJ12_scalb_4 : cJ12_scalb.data.toList.drop 94 = dktJ12_scalb_4 := dk_seg dksJ12_scalb_3 23 rfl rfl
theorem dJ12_scalb_0 : decode cJ12_scalb 0 = .ok (.sipush 2099, 3) := dk_17 8 51 (dk_at dksJ12_scalb_0 0 rfl rfl)
theorem dJ12_scalb_3 : decode cJ12_scalb 3 = .ok (.istore_n 3, 1) := dk_62 (dk_at dksJ12_scalb_0 3 rfl rfl)
theorem dJ12_scalb_4 : decode cJ12_scalb 4 = .ok (.iconst 0, 1) := dk_3 (dk_at dksJ12_scalb_0 4 rfl rfl)
theorem dJ12_scalb_5 : decode cJ12_scalb 5 = .ok (.istore 4, 2) := dk_54 4 (dk_at dksJ12_scalb_0 5 rfl rfl)
theorem dJ12_scalb_7 : decode cJ12_scalb 7 = .ok (.iconst 0, 1) := dk_3 (dk_at dksJ12_scalb_0 7 rfl rfl)
theorem dJ12_scalb_8 : decode cJ12_scalb 8 = .ok (.istore 5, 2) := dk_54 5 (dk_at dksJ12_scalb_0 8 rfl rfl)
theorem dJ12_scalb_10 : decode cJ12_scalb 10 = .ok (.ldc2_w 238, 3) := dk_20 0 238 (dk_at dksJ12_scalb_0 10 rfl rfl)
theorem dJ12_scalb_13 : decode cJ12_scalb 13 = .ok (.dstore 6, 2) := dk_57 6 (dk_at dksJ12_scalb_0 13 rfl rfl)
theorem dJ12_scalb_15 : decode cJ12_scalb 15 = .ok (.iload_n 2, 1) := dk_28 (dk_at dksJ12_scalb_0 15 rfl rfl)
theorem dJ12_scalb_16 : decode cJ12_scalb 16 = .ok (.ifCond .ge 24, 3) := dk_156 0 24 (dk_at dksJ12_scalb_0 16 rfl rfl)
theorem dJ12_scalb_19 : decode cJ12_scalb 19 = .ok (.iload_n 2, 1) := dk_28 (dk_at dksJ12_scalb_0 19 rfl rfl)
theorem dJ12_scalb_20 : decode cJ12_scalb 20 = .ok (.sipush (-2099), 3) := dk_17 247 205 (dk_at dksJ12_scalb_0 20 rfl rfl)
theorem dJ12_scalb_23 : decode cJ12_scalb 23 = .ok (.invokestatic 333, 3) := dk_184 1 77 (dk_at dksJ12_scalb_1 0 rfl rfl)
theorem dJ12_scalb_26 : decode cJ12_scalb 26 = .ok (.istore_n 2, 1) := dk_61 (dk_at dksJ12_scalb_1 3 rfl rfl)
theorem dJ12_scalb_27 : decode cJ12_scalb 27 = .ok (.sipush (-512), 3) := dk_17 254 0 (dk_at dksJ12_scalb_1 4 rfl rfl)
theorem dJ12_scalb_30 : decode cJ12_scalb 30 = .ok (.istore 5, 2) := dk_54 5 (dk_at dksJ12_scalb_1 7 rfl rfl)
theorem dJ12_scalb_32 : decode cJ12_scalb 32 = .ok (.getstatic 336, 3) := dk_178 1 80 (dk_at dksJ12_scalb_1 9 rfl rfl)
theorem dJ12_scalb_35 : decode cJ12_scalb 35 = .ok (.dstore 6, 2) := dk_57 6 (dk_at dksJ12_scalb_1 12 rfl rfl)
theorem dJ12_scalb_37 : decode cJ12_scalb 37 = .ok (.goto 21, 3) := dk_167 0 21 (dk_at dksJ12_scalb_1 14 rfl rfl)
theorem dJ12_scalb_40 : decode cJ12_scalb 40 = .ok (.iload_n 2, 1) := dk_28 (dk_at dksJ12_scalb_1 17 rfl rfl)
theorem dJ12_scalb_41 : decode cJ12_scalb 41 = .ok (.sipush 2099, 3) := dk_17 8 51 (dk_at dksJ12_scalb_1 18 rfl rfl)
theorem dJ12_scalb_44 : decode cJ12_scalb 44 = .ok (.invokestatic 340, 3) := dk_184 1 84 (dk_at dksJ12_scalb_1 21 rfl rfl)
theorem dJ12_scalb_47 : decode cJ12_scalb 47 = .ok (.istore_n 2, 1) := dk_61 (dk_at dksJ12_scalb_2 0 rfl rfl)
theorem dJ12_scalb_48 : decode cJ12_scalb 48 = .ok (.sipush 512, 3) := dk_17 2 0 (dk_at dksJ12_scalb_2 1 rfl rfl)
theorem dJ12_scalb_51 : decode cJ12_scalb 51 = .ok (.istore 5, 2) := dk_54 5 (dk_at dksJ12_scalb_2 4 rfl rfl)
theorem dJ12_scalb_53 : decode cJ12_scalb 53 = .ok (.getstatic 342, 3) := dk_178 1 86 (dk_at dksJ12_scalb_2 6 rfl rfl)
theorem dJ12_scalb_56 : decode cJ12_scalb 56 = .ok (.dstore 6, 2) := dk_57 6 (dk_at dksJ12_scalb_2 9 rfl rfl)
theorem dJ12_scalb_58 : decode cJ12_scalb 58 = .ok (.iload_n 2, 1) := dk_28 (dk_at dksJ12_scalb_2 11 rfl rfl)
theorem dJ12_scalb_59 : decode cJ12_scalb 59 = .ok (.bipush 8, 2) := dk_16 8 (dk_at dksJ12_scalb_2 12 rfl rfl)
theorem dJ12_scalb_61 : decode cJ12_scalb 61 = .ok (.ishr, 1) := dk_122 (dk_at dksJ12_scalb_2 14 rfl rfl)
theorem dJ12_scalb_62 : decode cJ12_scalb 62 = .ok (.bipush 23, 2) := dk_16 23 (dk_at dksJ12_scalb_2 15 rfl rfl)
theorem dJ12_scalb_64 : decode cJ12_scalb 64 = .ok (.iushr, 1) := dk_124 (dk_at dksJ12_scalb_2 17 rfl rfl)
theorem dJ12_scalb_65 : decode cJ12_scalb 65 = .ok (.istore 8, 2) := dk_54 8 (dk_at dksJ12_scalb_2 18 rfl rfl)
theorem dJ12_scalb_67 : decode cJ12_scalb 67 = .ok (.iload_n 2, 1) := dk_28 (dk_at dksJ12_scalb_2 20 rfl rfl)
theorem dJ12_scalb_68 : decode cJ12_scalb 68 = .ok (.iload 8, 2) := dk_21 8 (dk_at dksJ12_scalb_2 21 rfl rfl)
theorem dJ12_scalb_70 : decode cJ12_scalb 70 = .ok (.iadd, 1) := dk_96 (dk_at dksJ12_scalb_2 23 rfl rfl)
theorem dJ12_scalb_71 : decode cJ12_scalb 71 = .ok (.sipush 511, 3) := dk_17 1 255 (dk_at dksJ12_scalb_3 0 rfl rfl)
theorem dJ12_scalb_74 : decode cJ12_scalb 74 = .ok (.iand, 1) := dk_126 (dk_at dksJ12_scalb_3 3 rfl rfl)
theorem dJ12_scalb_75 : decode cJ12_scalb 75 = .ok (.iload 8, 2) := dk_21 8 (dk_at dksJ12_scalb_3 4 rfl rfl)
theorem dJ12_scalb_77 : decode cJ12_scalb 77 = .ok (.isub, 1) := dk_100 (dk_at dksJ12_scalb_3 6 rfl rfl)
theorem dJ12_scalb_78 : decode cJ12_scalb 78 = .ok (.istore 4, 2) := dk_54 4 (dk_at dksJ12_scalb_3 7 rfl rfl)
theorem dJ12_scalb_80 : decode cJ12_scalb 80 = .ok (.dload_n 0, 1) := dk_38 (dk_at dksJ12_scalb_3 9 rfl rfl)
theorem dJ12_scalb_81 : decode cJ12_scalb 81 = .ok (.iload 4, 2) := dk_21 4 (dk_at dksJ12_scalb_3 10 rfl rfl)
theorem dJ12_scalb_83 : decode cJ12_scalb 83 = .ok (.invokestatic 286, 3) := dk_184 1 30 (dk_at dksJ12_scalb_3 12 rfl rfl)
theorem dJ12_scalb_86 : decode cJ12_scalb 86 = .ok (.dmul, 1) := dk_107 (dk_at dksJ12_scalb_3 15 rfl rfl)
theorem dJ12_scalb_87 : decode cJ12_scalb 87 = .ok (.dstore_n 0, 1) := dk_71 (dk_at dksJ12_scalb_3 16 rfl rfl)
theorem dJ12_scalb_88 : decode cJ12_scalb 88 = .ok (.iload_n 2, 1) := dk_28 (dk_at dksJ12_scalb_3 17 rfl rfl)
theorem dJ12_scalb_89 : decode cJ12_scalb 89 = .ok (.iload 4, 2) := dk_21 4 (dk_at dksJ12_scalb_3 18 rfl rfl)
theorem dJ12_scalb_91 : decode cJ12_scalb 91 = .ok (.isub, 1) := dk_100 (dk_at dksJ12_scalb_3 20 rfl rfl)
theorem dJ12_scalb_92 : decode cJ12_scalb 92 = .ok (.istore_n 2, 1) := dk_61 (dk_at dksJ12_scalb_3 21 rfl rfl)
theorem dJ12_scalb_93 : decode cJ12_scalb 93 = .ok (.iload_n 2, 1) := dk_28 (dk_at dksJ12_scalb_3 22 rfl rfl)
theorem dJ12_scalb_94 : decode cJ12_scalb 94 = .ok (.ifCond .eq 16, 3) := dk_153 0 16 (dk_at dksJ12_scalb_4 0 rfl rfl)
theorem dJ12_scalb_97 : decode cJ12_scalb 97 = .ok (.dload_n 0, 1) := dk_38 (dk_at dksJ12_scalb_4 3 rfl rfl)
theorem dJ12_scalb_98 : decode cJ12_scalb 98 = .ok (.dload 6, 2) := dk_24 6 (dk_at dksJ12_scalb_4 4 rfl rfl)
theorem dJ12_scalb_100 : decode cJ12_scalb 100 = .ok (.dmul, 1) := dk_107 (dk_at dksJ12_scalb_4 6 rfl rfl)
theorem dJ12_scalb_101 : decode cJ12_scalb 101 = .ok (.dstore_n 0, 1) := dk_71 (dk_at dksJ12_scalb_4 7 rfl rfl)
theorem dJ12_scalb_102 : decode cJ12_scalb 102 = .ok (.iload_n 2, 1) := dk_28 (dk_at dksJ12_scalb_4 8 rfl rfl)
theorem dJ12_scalb_103 : decode cJ12_scalb 103 = .ok (.iload 5, 2) := dk_21 5 (dk_at dksJ12_scalb_4 9 rfl rfl)
theorem dJ12_scalb_105 : decode cJ12_scalb 105 = .ok (.isub, 1) := dk_100 (dk_at dksJ12_scalb_4 11 rfl rfl)
theorem dJ12_scalb_106 : decode cJ12_scalb 106 = .ok (.istore_n 2, 1) := dk_61 (dk_at dksJ12_scalb_4 12 rfl rfl)
theorem dJ12_scalb_107 : decode cJ12_scalb 107 = .ok (.goto (-14), 3) := dk_167 255 242 (dk_at dksJ12_scalb_4 13 rfl rfl)
theorem dJ12_scalb_110 : decode cJ12_scalb 110 = .ok (.dload_n 0, 1) := dk_38 (dk_at dksJ12_scalb_4 16 rfl rfl)
theorem dJ12_scalb_111 : decode cJ12_scalb 111 = .ok (.dreturn, 1) := dk_175 (dk_at dksJ12_scalb_4 17 rfl rfl)
theorem yd_J12_max : yJ12_max.cls ≠ "java/lang/invoke/MethodHandle" ∧ yJ12_max.cls ≠ "java/lang/invoke/VarHandle" ∧ (parseMethodDescriptor yJ12_max.desc).map (fun d => d.parameters.length) = some 2 := by decide +kernel
theorem yd_J12_min : yJ12_min.cls ≠ "java/lang/invoke/MethodHandle" ∧ yJ12_min.cls ≠ "java/lang/invoke/VarHandle" ∧ (parseMethodDescriptor yJ12_min.desc).map (fun d => d.parameters.length) = some 2 := by decide +kernel
set_option maxHeartbeats 1000000 in
theorem m_scalb (l : Launch) (z : State) (H0 : Heap) (x : UInt64) (n : Int) {A : Nat → Prop} (k : Nat → Nat) (hx0 : dFin x) (hn1 : -100000 ≤ n) (hn2 : n ≤ 100000) (hk : sN z k A H0) : Met l yJ12_scalb (ws_ yJ12_scalb cJ12_scalb 9 (some .double)) { frames := 2, cells := 0, slots := 0, locals := 43 } (gPc z H0 [.double x, .int (iI n)]) (gPd H0 (fun r => r = dScb x n)) 0 0 gno := by
  refine g_start (pl_J12_scalb) (Nat.le_of_ble_eq_true rfl) ?_
  intro p e s m below meth c ls hx hb hr hlocks hml hown hname hts hwm hl
  have hown : s.vm.findClass "java/lang/Math" = some m.cls := hown
  have hal : z.vm.Alike s.vm := hwm.alike
  have hCF : CallFix p m c cJ12_scalb 9 s [.double x, .int (iI n)].toArray lw_all "java/lang/Math" := ⟨hx, hb, hml, hown, hts⟩
  have hl : lv_has ls 9 [(0, .double x), (2, .int (iI n))] := hl
  refine lv_sipush (v := 2099) hx hb dJ12_scalb_0 (by decide) ?_
  refine lv_istore_n hx hb dJ12_scalb_3 rfl hl (by decide) rfl (fun ls hl => ?_)
  have hl : lv_has ls 9 [(3, .int 2099), (0, .double x), (2, .int (iI n))] := hl
  refine lv_iconst (v := 0) hx hb dJ12_scalb_4 (by decide) ?_
  refine lv_istore hx hb dJ12_scalb_5 hl (by decide) rfl (fun ls hl => ?_)
  have hl : lv_has ls 9 [(4, .int 0), (3, .int 2099), (0, .double x), (2, .int (iI n))] := hl
  refine lv_iconst (v := 0) hx hb dJ12_scalb_7 (by decide) ?_
  refine lv_istore hx hb dJ12_scalb_8 hl (by decide) rfl (fun ls hl => ?_)
  have hl : lv_has ls 9 [(5, .int 0), (4, .int 0), (3, .int 2099), (0, .double x), (2, .int (iI n))] := hl
  refine lv_ldc2d (v := 9221120237041090560) hx hb hown (hts _ q1463) dJ12_scalb_10 ?_
  refine lv_dstore hx hb dJ12_scalb_13 hl (by decide) rfl (fun ls hl => ?_)
  have hl : lv_has ls 9 [(6, .double 9221120237041090560), (5, .int 0), (4, .int 0), (3, .int 2099), (0, .double x), (2, .int (iI n))] := hl
  refine lv_iload_n hx hb dJ12_scalb_15 rfl (lv_at hl 5 rfl) ?_
  refine lv_if_ge (tgt := 40) hx hb dJ12_scalb_16 (by decide) (fun c_16 => ?_) (fun c_16 => ?_)
  · skip
    have hn0 : 0 ≤ n := by have q := c_16; rw [Int32.le_iff_toInt_le, iI_toInt (by omega) (by omega)] at q; simpa using q
    have hm1 : -2099 ≤ min n 2099 := by omega
    have hm2 : min n 2099 ≤ 2099 := by omega
    have hm3 : ¬ min n 2099 < 0 := by omega
    have ha : sAdj (min n 2099) = (min n 2099) % 512 := by unfold sAdj; rw [if_neg hm3]
    refine lv_iload_n hx hb dJ12_scalb_40 rfl (lv_at hl 5 rfl) ?_
    refine lv_sipush (v := 2099) hx hb dJ12_scalb_41 (by decide) ?_
    refine gcS2_iP hCF hwm hl.1 (m_minI l z H0 (iI n) 2099  ) (lw_S q1467 q284 q72 q285) yd_J12_min ⟨Nat.le_of_ble_eq_true rfl, Nat.le_of_ble_eq_true rfl⟩ ⟨Nat.le_of_ble_eq_true rfl, Nat.le_of_ble_eq_true rfl⟩ (Nat.le_of_ble_eq_true rfl) dJ12_scalb_44 (fun r_1 hp => ?_)
    subst hp
    refine g_topi (v := (iI (min n 2099))) ?_ ?_
    · skip
      exact iI_min (b := 2099) (by omega) (by omega) (by omega) (by omega)
    refine lv_istore_n hx hb dJ12_scalb_47 rfl hl (by decide) rfl (fun ls hl => ?_)
    have hl : lv_has ls 9 [(2, .int (iI (min n 2099))), (6, .double 9221120237041090560), (5, .int 0), (4, .int 0), (3, .int 2099), (0, .double x)] := hl
    refine lv_sipush (v := 512) hx hb dJ12_scalb_48 (by decide) ?_
    refine lv_istore hx hb dJ12_scalb_51 hl (by decide) rfl (fun ls hl => ?_)
    have hl : lv_has ls 9 [(5, .int 512), (2, .int (iI (min n 2099))), (6, .double 9221120237041090560), (4, .int 0), (3, .int 2099), (0, .double x)] := hl
    refine gw_getsP hx hb hal hk.2.2.2.2.1 hown (hts _ q1468) (fun _ h9 => h9) dJ12_scalb_53 ?_
    refine lv_dstore hx hb dJ12_scalb_56 hl (by decide) rfl (fun ls hl => ?_)
    have hl : lv_has ls 9 [(6, .double 6913025428013711360), (5, .int 512), (2, .int (iI (min n 2099))), (4, .int 0), (3, .int 2099), (0, .double x)] := hl
    refine lv_iload_n hx hb dJ12_scalb_58 rfl (lv_at hl 2 rfl) ?_
    refine lv_bipush (v := 8) hx hb dJ12_scalb_59 (by decide) ?_
    refine lv_ishr hx hb dJ12_scalb_61 ?_
    refine lv_bipush (v := 23) hx hb dJ12_scalb_62 (by decide) ?_
    refine lv_iushr hx hb dJ12_scalb_64 rfl ?_
    refine g_topi (v := 0) ?_ ?_
    · skip
      rw [sc_tt hm1 hm2]
      rw [if_neg hm3]
    refine lv_istore hx hb dJ12_scalb_65 hl (by decide) rfl (fun ls hl => ?_)
    have hl : lv_has ls 9 [(8, .int 0), (6, .double 6913025428013711360), (5, .int 512), (2, .int (iI (min n 2099))), (4, .int 0), (3, .int 2099), (0, .double x)] := hl
    refine lv_iload_n hx hb dJ12_scalb_67 rfl (lv_at hl 3 rfl) ?_
    refine lv_iload hx hb dJ12_scalb_68 (lv_at hl 0 rfl) ?_
    refine lv_iadd hx hb dJ12_scalb_70 ?_
    refine lv_sipush (v := 511) hx hb dJ12_scalb_71 (by decide) ?_
    refine lv_iand hx hb dJ12_scalb_74 ?_
    refine lv_iload hx hb dJ12_scalb_75 (lv_at hl 0 rfl) ?_
    refine lv_isub hx hb dJ12_scalb_77 ?_
    refine g_topi (v := (iI (sAdj (min n 2099)))) ?_ ?_
    · skip
      have h9 := sc_aa hm1 hm2
      rw [if_neg hm3] at h9
      exact h9
    refine lv_istore hx hb dJ12_scalb_78 hl (by decide) rfl (fun ls hl => ?_)
    have hl : lv_has ls 9 [(4, .int (iI (sAdj (min n 2099)))), (8, .int 0), (6, .double 6913025428013711360), (5, .int 512), (2, .int (iI (min n 2099))), (3, .int 2099), (0, .double x)] := hl
    refine lv_dload_n hx hb dJ12_scalb_80 rfl (lv_at hl 6 rfl) ?_
    refine lv_iload hx hb dJ12_scalb_81 (lv_at hl 0 rfl) ?_
    refine gcS1_dP hCF hwm hl.1 (m_pow2 l z H0  (sAdj (min n 2099)) k (by rw [ha]; omega) (by rw [ha]; omega) hk ) (lw_S q1470 q1471 q72 q1472) yd_J12_powerOfTwoD ⟨Nat.le_of_ble_eq_true rfl, Nat.le_of_ble_eq_true rfl⟩ ⟨Nat.le_of_ble_eq_true rfl, Nat.le_of_ble_eq_true rfl⟩ (Nat.le_of_ble_eq_true rfl) dJ12_scalb_83 (fun r_2 hp => ?_)
    subst hp
    refine lv_dmul hx hb dJ12_scalb_86 (by rw [dmul_pw hx0 (by rw [ha]; omega) (by rw [ha]; omega)]; exact n64 (dScb_num _ _)) ?_
    refine g_topd (v := (dScb x (sAdj (min n 2099)))) (dmul_pw hx0 (by rw [ha]; omega) (by rw [ha]; omega)) ?_
    refine g_topd (v := (dScb x ((min n 2099) - 512 * ((((min n 2099) - sAdj (min n 2099)) / 512).toNat : Int)))) ?_ ?_
    · skip
      congr 1
      rw [ha]; omega
    refine lv_dstore_n hx hb dJ12_scalb_87 rfl hl (by decide) rfl (fun ls hl => ?_)
    have hl : lv_has ls 9 [(0, .double (dScb x ((min n 2099) - 512 * ((((min n 2099) - sAdj (min n 2099)) / 512).toNat : Int)))), (4, .int (iI (sAdj (min n 2099)))), (8, .int 0), (6, .double 6913025428013711360), (5, .int 512), (2, .int (iI (min n 2099))), (3, .int 2099)] := hl
    refine lv_iload_n hx hb dJ12_scalb_88 rfl (lv_at hl 5 rfl) ?_
    refine lv_iload hx hb dJ12_scalb_89 (lv_at hl 1 rfl) ?_
    refine lv_isub hx hb dJ12_scalb_91 ?_
    refine g_topi (v := (iI ((min n 2099) - sAdj (min n 2099)))) (iI_sub) ?_
    refine g_topi (v := (iI (512 * ((((min n 2099) - sAdj (min n 2099)) / 512).toNat : Int)))) ?_ ?_
    · skip
      congr 1
      rw [ha]; omega
    refine lv_istore_n hx hb dJ12_scalb_92 rfl hl (by decide) rfl (fun ls hl => ?_)
    have hl : lv_has ls 9 [(2, .int (iI (512 * ((((min n 2099) - sAdj (min n 2099)) / 512).toNat : Int)))), (0, .double (dScb x ((min n 2099) - 512 * ((((min n 2099) - sAdj (min n 2099)) / 512).toNat : Int)))), (4, .int (iI (sAdj (min n 2099)))), (8, .int 0), (6, .double 6913025428013711360), (5, .int 512), (3, .int 2099)] := hl
    have loop : ∀ (n_ : Nat) (i : Nat), (512 * (i : Int) ≤ (min n 2099)) → (i) < n_ → ∀ (ls : Array Slot), lv_has ls 9 [(2, .int (iI (512 * (i : Int)))), (0, .double (dScb x ((min n 2099) - 512 * (i : Int)))), (6, .double 6913025428013711360), (5, .int 512)] → W p l e { frames := 2, cells := 0, slots := 0, locals := 43 } s m [.double x, .int (iI n)].toArray below meth c H0 [] 0 0 (MQ below (gPd H0 (fun r => r = dScb x n)) [.double x, .int (iI n)].toArray s 0 0 (gno)) (F0 m 93 ls []) := by
      intro n_
      induction n_ with
      | zero => intro i hi hm_; exact absurd hm_ (Nat.not_lt_zero _)
      | succ n_ ih_loop =>
        intro i hi hm_ ls hl
        refine lv_iload_n hx hb dJ12_scalb_93 rfl (lv_at hl 0 rfl) ?_
        refine lv_if_eq (tgt := 110) hx hb dJ12_scalb_94 (by decide) (fun c_94 => ?_) (fun c_94 => ?_)
        · skip
          have hi0 : i = 0 := by
            have q := Int32.toInt_inj.mpr c_94
            rw [iI_toInt (by omega) (by omega)] at q
            simp at q
            omega
          refine lv_dload_n hx hb dJ12_scalb_110 rfl (lv_at hl 1 rfl) ?_
          refine g_dretP hx hb hr hlocks ?_ dJ12_scalb_111
          subst hi0
          rw [show min n 2099 - 512 * ((0 : Nat) : Int) = min n 2099 by omega]
          rcases (by omega : n ≤ 2099 ∨ 2099 < n) with q | q
          · rw [show min n 2099 = n by omega]
          · rw [show min n 2099 = 2099 by omega, dScb_clampU (n := n) (by omega)]
        · skip
          have hi0 : i ≠ 0 := by
            intro q
            exact c_94 (by rw [q]; decide)
          refine lv_dload_n hx hb dJ12_scalb_97 rfl (lv_at hl 1 rfl) ?_
          refine lv_dload hx hb dJ12_scalb_98 (lv_at hl 2 rfl) ?_
          refine lv_dmul hx hb dJ12_scalb_100 (by first | (rw [show (6913025428013711360 : UInt64) = pw 512 from by decide, sc_up hx0 (by omega)]; exact n64 (dScb_num _ _)) | (rw [show (2301339409586323456 : UInt64) = pw (-512) from by decide, sc_down hx0 (by omega)]; exact n64 (dScb_num _ _))) ?_
          refine g_topd (v := (dScb x ((min n 2099) - 512 * ((i - 1 : Nat) : Int)))) ?_ ?_
          · skip
            rw [show (6913025428013711360 : UInt64) = pw 512 from by decide, sc_up hx0 (by omega)]
            congr 1; omega
          refine lv_dstore_n hx hb dJ12_scalb_101 rfl hl (by decide) rfl (fun ls hl => ?_)
          have hl : lv_has ls 9 [(0, .double (dScb x ((min n 2099) - 512 * ((i - 1 : Nat) : Int)))), (2, .int (iI (512 * (i : Int)))), (6, .double 6913025428013711360), (5, .int 512)] := hl
          refine lv_iload_n hx hb dJ12_scalb_102 rfl (lv_at hl 1 rfl) ?_
          refine lv_iload hx hb dJ12_scalb_103 (lv_at hl 3 rfl) ?_
          refine lv_isub hx hb dJ12_scalb_105 ?_
          refine g_topi (v := (iI (512 * ((i - 1 : Nat) : Int)))) ?_ ?_
          · skip
            rw [show (512 : Int32) = iI 512 from by decide, iI_sub]
            congr 1; omega
          refine lv_istore_n hx hb dJ12_scalb_106 rfl hl (by decide) rfl (fun ls hl => ?_)
          have hl : lv_has ls 9 [(2, .int (iI (512 * ((i - 1 : Nat) : Int)))), (0, .double (dScb x ((min n 2099) - 512 * ((i - 1 : Nat) : Int)))), (6, .double 6913025428013711360), (5, .int 512)] := hl
          refine lv_goto (tgt := 93) hx hb dJ12_scalb_107 (by decide) ?_
          exact ih_loop (i - 1) (by omega) (by omega) ls (lv_sub hl [0, 1, 2, 3] rfl)
    exact loop _ (((min n 2099) - sAdj (min n 2099)) / 512).toNat (by rw [ha]; omega) (Nat.lt_succ_self _) ls (lv_sub hl [0, 1, 4, 5] rfl)
  · skip
    have hn0 : n < 0 := by
      rcases (by omega : n < 0 ∨ 0 ≤ n) with q | q
      · exact q
      · exact absurd (by rw [Int32.le_iff_toInt_le, iI_toInt (by omega) (by omega)]; simpa using q) c_16
    have hm1 : -2099 ≤ max n (-2099) := by omega
    have hm2 : max n (-2099) ≤ 2099 := by omega
    have hm3 : max n (-2099) < 0 := by omega
    have ha : sAdj (max n (-2099)) = -((-(max n (-2099))) % 512) := by unfold sAdj; rw [if_pos hm3]
    refine lv_iload_n hx hb dJ12_scalb_19 rfl (lv_at hl 5 rfl) ?_
    refine lv_sipush (v := -2099) hx hb dJ12_scalb_20 (by decide) ?_
    refine gcS2_iP hCF hwm hl.1 (m_maxI l z H0 (iI n) (-2099)  ) (lw_S q1464 q267 q72 q268) yd_J12_max ⟨Nat.le_of_ble_eq_true rfl, Nat.le_of_ble_eq_true rfl⟩ ⟨Nat.le_of_ble_eq_true rfl, Nat.le_of_ble_eq_true rfl⟩ (Nat.le_of_ble_eq_true rfl) dJ12_scalb_23 (fun r_3 hp => ?_)
    subst hp
    refine g_topi (v := (iI (max n (-2099)))) ?_ ?_
    · skip
      have h9 := iI_max (a := n) (b := -2099) (by omega) (by omega) (by decide) (by decide)
      exact h9
    refine lv_istore_n hx hb dJ12_scalb_26 rfl hl (by decide) rfl (fun ls hl => ?_)
    have hl : lv_has ls 9 [(2, .int (iI (max n (-2099)))), (6, .double 9221120237041090560), (5, .int 0), (4, .int 0), (3, .int 2099), (0, .double x)] := hl
    refine lv_sipush (v := -512) hx hb dJ12_scalb_27 (by decide) ?_
    refine lv_istore hx hb dJ12_scalb_30 hl (by decide) rfl (fun ls hl => ?_)
    have hl : lv_has ls 9 [(5, .int (-512)), (2, .int (iI (max n (-2099)))), (6, .double 9221120237041090560), (4, .int 0), (3, .int 2099), (0, .double x)] := hl
    refine gw_getsP hx hb hal hk.2.2.2.2.2 hown (hts _ q1465) (fun _ h9 => h9) dJ12_scalb_32 ?_
    refine lv_dstore hx hb dJ12_scalb_35 hl (by decide) rfl (fun ls hl => ?_)
    have hl : lv_has ls 9 [(6, .double 2301339409586323456), (5, .int (-512)), (2, .int (iI (max n (-2099)))), (4, .int 0), (3, .int 2099), (0, .double x)] := hl
    refine lv_goto (tgt := 58) hx hb dJ12_scalb_37 (by decide) ?_
    refine lv_iload_n hx hb dJ12_scalb_58 rfl (lv_at hl 2 rfl) ?_
    refine lv_bipush (v := 8) hx hb dJ12_scalb_59 (by decide) ?_
    refine lv_ishr hx hb dJ12_scalb_61 ?_
    refine lv_bipush (v := 23) hx hb dJ12_scalb_62 (by decide) ?_
    refine lv_iushr hx hb dJ12_scalb_64 rfl ?_
    refine g_topi (v := 511) ?_ ?_
    · skip
      rw [sc_tt hm1 hm2]
      rw [if_pos hm3]
    refine lv_istore hx hb dJ12_scalb_65 hl (by decide) rfl (fun ls hl => ?_)
    have hl : lv_has ls 9 [(8, .int 511), (6, .double 2301339409586323456), (5, .int (-512)), (2, .int (iI (max n (-2099)))), (4, .int 0), (3, .int 2099), (0, .double x)] := hl
    refine lv_iload_n hx hb dJ12_scalb_67 rfl (lv_at hl 3 rfl) ?_
    refine lv_iload hx hb dJ12_scalb_68 (lv_at hl 0 rfl) ?_
    refine lv_iadd hx hb dJ12_scalb_70 ?_
    refine lv_sipush (v := 511) hx hb dJ12_scalb_71 (by decide) ?_
    refine lv_iand hx hb dJ12_scalb_74 ?_
    refine lv_iload hx hb dJ12_scalb_75 (lv_at hl 0 rfl) ?_
    refine lv_isub hx hb dJ12_scalb_77 ?_
    refine g_topi (v := (iI (sAdj (max n (-2099))))) ?_ ?_
    · skip
      have h9 := sc_aa hm1 hm2
      rw [if_pos hm3] at h9
      exact h9
    refine lv_istore hx hb dJ12_scalb_78 hl (by decide) rfl (fun ls hl => ?_)
    have hl : lv_has ls 9 [(4, .int (iI (sAdj (max n (-2099))))), (8, .int 511), (6, .double 2301339409586323456), (5, .int (-512)), (2, .int (iI (max n (-2099)))), (3, .int 2099), (0, .double x)] := hl
    refine lv_dload_n hx hb dJ12_scalb_80 rfl (lv_at hl 6 rfl) ?_
    refine lv_iload hx hb dJ12_scalb_81 (lv_at hl 0 rfl) ?_
    refine gcS1_dP hCF hwm hl.1 (m_pow2 l z H0  (sAdj (max n (-2099))) k (by rw [ha]; omega) (by rw [ha]; omega) hk ) (lw_S q1470 q1471 q72 q1472) yd_J12_powerOfTwoD ⟨Nat.le_of_ble_eq_true rfl, Nat.le_of_ble_eq_true rfl⟩ ⟨Nat.le_of_ble_eq_true rfl, Nat.le_of_ble_eq_true rfl⟩ (Nat.le_of_ble_eq_true rfl) dJ12_scalb_83 (fun r_4 hp => ?_)
    subst hp
    refine lv_dmul hx hb dJ12_scalb_86 (by rw [dmul_pw hx0 (by rw [ha]; omega) (by rw [ha]; omega)]; exact n64 (dScb_num _ _)) ?_
    refine g_topd (v := (dScb x (sAdj (max n (-2099))))) (dmul_pw hx0 (by rw [ha]; omega) (by rw [ha]; omega)) ?_
    refine g_topd (v := (dScb x ((max n (-2099)) + 512 * (((sAdj (max n (-2099)) - (max n (-2099))) / 512).toNat : Int)))) ?_ ?_
    · skip
      congr 1
      rw [ha]; omega
    refine lv_dstore_n hx hb dJ12_scalb_87 rfl hl (by decide) rfl (fun ls hl => ?_)
    have hl : lv_has ls 9 [(0, .double (dScb x ((max n (-2099)) + 512 * (((sAdj (max n (-2099)) - (max n (-2099))) / 512).toNat : Int)))), (4, .int (iI (sAdj (max n (-2099))))), (8, .int 511), (6, .double 2301339409586323456), (5, .int (-512)), (2, .int (iI (max n (-2099)))), (3, .int 2099)] := hl
    refine lv_iload_n hx hb dJ12_scalb_88 rfl (lv_at hl 5 rfl) ?_
    refine lv_iload hx hb dJ12_scalb_89 (lv_at hl 1 rfl) ?_
    refine lv_isub hx hb dJ12_scalb_91 ?_
    refine g_topi (v := (iI ((max n (-2099)) - sAdj (max n (-2099))))) (iI_sub) ?_
    refine g_topi (v := (iI (-(512 * (((sAdj (max n (-2099)) - (max n (-2099))) / 512).toNat : Int))))) ?_ ?_
    · skip
      congr 1
      rw [ha]; omega
    refine lv_istore_n hx hb dJ12_scalb_92 rfl hl (by decide) rfl (fun ls hl => ?_)
    have hl : lv_has ls 9 [(2, .int (iI (-(512 * (((sAdj (max n (-2099)) - (max n (-2099))) / 512).toNat : Int))))), (0, .double (dScb x ((max n (-2099)) + 512 * (((sAdj (max n (-2099)) - (max n (-2099))) / 512).toNat : Int)))), (4, .int (iI (sAdj (max n (-2099))))), (8, .int 511), (6, .double 2301339409586323456), (5, .int (-512)), (3, .int 2099)] := hl
    have loop : ∀ (n_ : Nat) (i : Nat), ((max n (-2099)) ≤ -(512 * (i : Int))) → (i) < n_ → ∀ (ls : Array Slot), lv_has ls 9 [(2, .int (iI (-(512 * (i : Int))))), (0, .double (dScb x ((max n (-2099)) + 512 * (i : Int)))), (6, .double 2301339409586323456), (5, .int (-512))] → W p l e { frames := 2, cells := 0, slots := 0, locals := 43 } s m [.double x, .int (iI n)].toArray below meth c H0 [] 0 0 (MQ below (gPd H0 (fun r => r = dScb x n)) [.double x, .int (iI n)].toArray s 0 0 (gno)) (F0 m 93 ls []) := by
      intro n_
      induction n_ with
      | zero => intro i hi hm_; exact absurd hm_ (Nat.not_lt_zero _)
      | succ n_ ih_loop =>
        intro i hi hm_ ls hl
        refine lv_iload_n hx hb dJ12_scalb_93 rfl (lv_at hl 0 rfl) ?_
        refine lv_if_eq (tgt := 110) hx hb dJ12_scalb_94 (by decide) (fun c_94 => ?_) (fun c_94 => ?_)
        · skip
          have hi0 : i = 0 := by
            have q := Int32.toInt_inj.mpr c_94
            rw [iI_toInt (by omega) (by omega)] at q
            simp at q
            omega
          refine lv_dload_n hx hb dJ12_scalb_110 rfl (lv_at hl 1 rfl) ?_
          refine g_dretP hx hb hr hlocks ?_ dJ12_scalb_111
          subst hi0
          rw [show max n (-2099) + 512 * ((0 : Nat) : Int) = max n (-2099) by omega]
          rcases (by omega : -2099 ≤ n ∨ n < -2099) with q | q
          · rw [show max n (-2099) = n by omega]
          · rw [show max n (-2099) = -2099 by omega, dScb_clampD (n := n) hx0 (by omega)]
        · skip
          have hi0 : i ≠ 0 := by
            intro q
            exact c_94 (by rw [q]; decide)
          refine lv_dload_n hx hb dJ12_scalb_97 rfl (lv_at hl 1 rfl) ?_
          refine lv_dload hx hb dJ12_scalb_98 (lv_at hl 2 rfl) ?_
          refine lv_dmul hx hb dJ12_scalb_100 (by first | (rw [show (6913025428013711360 : UInt64) = pw 512 from by decide, sc_up hx0 (by omega)]; exact n64 (dScb_num _ _)) | (rw [show (2301339409586323456 : UInt64) = pw (-512) from by decide, sc_down hx0 (by omega)]; exact n64 (dScb_num _ _))) ?_
          refine g_topd (v := (dScb x ((max n (-2099)) + 512 * ((i - 1 : Nat) : Int)))) ?_ ?_
          · skip
            rw [show (2301339409586323456 : UInt64) = pw (-512) from by decide, sc_down hx0 (by omega)]
            congr 1; omega
          refine lv_dstore_n hx hb dJ12_scalb_101 rfl hl (by decide) rfl (fun ls hl => ?_)
          have hl : lv_has ls 9 [(0, .double (dScb x ((max n (-2099)) + 512 * ((i - 1 : Nat) : Int)))), (2, .int (iI (-(512 * (i : Int))))), (6, .double 2301339409586323456), (5, .int (-512))] := hl
          refine lv_iload_n hx hb dJ12_scalb_102 rfl (lv_at hl 1 rfl) ?_
          refine lv_iload hx hb dJ12_scalb_103 (lv_at hl 3 rfl) ?_
          refine lv_isub hx hb dJ12_scalb_105 ?_
          refine g_topi (v := (iI (-(512 * ((i - 1 : Nat) : Int))))) ?_ ?_
          · skip
            rw [show (-512 : Int32) = iI (-512) from by decide, iI_sub]
            congr 1; omega
          refine lv_istore_n hx hb dJ12_scalb_106 rfl hl (by decide) rfl (fun ls hl => ?_)
          have hl : lv_has ls 9 [(2, .int (iI (-(512 * ((i - 1 : Nat) : Int))))), (0, .double (dScb x ((max n (-2099)) + 512 * ((i - 1 : Nat) : Int)))), (6, .double 2301339409586323456), (5, .int (-512))] := hl
          refine lv_goto (tgt := 93) hx hb dJ12_scalb_107 (by decide) ?_
          exact ih_loop (i - 1) (by omega) (by omega) ls (lv_sub hl [0, 1, 2, 3] rfl)
    exact loop _ ((sAdj (max n (-2099)) - (max n (-2099))) / 512).toNat (by rw [ha]; omega) (Nat.lt_succ_self _) ls (lv_sub hl [0, 1, 4, 5] rfl)
