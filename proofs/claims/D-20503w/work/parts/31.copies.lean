/-! ## walks (written by tools) -/
set_option maxRecDepth 100000
def dkwJ13_checkLength_1 : List UInt8 := [182, 0, 50, 27, 182, 0, 54, 182, 0, 61, 183, 0, 65, 191, 177]
abbrev dktJ13_checkLength_1 : List UInt8 := dkwJ13_checkLength_1 ++ []
def dkwJ13_checkLength_0 : List UInt8 := [27, 26, 162, 0, 35, 187, 0, 43, 89, 187, 0, 45, 89, 183, 0, 47, 26, 182, 0, 54, 19, 1, 81]
abbrev dktJ13_checkLength_0 : List UInt8 := dkwJ13_checkLength_0 ++ dktJ13_checkLength_1
theorem dksJ13_checkLength_0 : cJ13_checkLength.data.toList.drop 0 = dktJ13_checkLength_0 := by decide +kernel
theorem dksJ13_checkLength_1 : cJ13_checkLength.data.toList.drop 23 = dktJ13_checkLength_1 := dk_seg dksJ13_checkLength_0 23 rfl rfl
theorem dJ13_checkLength_0 : decode cJ13_checkLength 0 = .ok (.iload_n 1, 1) := dk_27 (dk_at dksJ13_checkLength_0 0 rfl rfl)
theorem dJ13_checkLength_1 : decode cJ13_checkLength 1 = .ok (.iload_n 0, 1) := dk_26 (dk_at dksJ13_checkLength_0 1 rfl rfl)
theorem dJ13_checkLength_2 : decode cJ13_checkLength 2 = .ok (.if_icmp .ge 35, 3) := dk_162 0 35 (dk_at dksJ13_checkLength_0 2 rfl rfl)
theorem dJ13_checkLength_5 : decode cJ13_checkLength 5 = .ok (.new 43, 3) := dk_187 0 43 (dk_at dksJ13_checkLength_0 5 rfl rfl)
theorem dJ13_checkLength_8 : decode cJ13_checkLength 8 = .ok (.dup, 1) := dk_89 (dk_at dksJ13_checkLength_0 8 rfl rfl)
theorem dJ13_checkLength_9 : decode cJ13_checkLength 9 = .ok (.new 45, 3) := dk_187 0 45 (dk_at dksJ13_checkLength_0 9 rfl rfl)
theorem dJ13_checkLength_12 : decode cJ13_checkLength 12 = .ok (.dup, 1) := dk_89 (dk_at dksJ13_checkLength_0 12 rfl rfl)
theorem dJ13_checkLength_13 : decode cJ13_checkLength 13 = .ok (.invokespecial 47, 3) := dk_183 0 47 (dk_at dksJ13_checkLength_0 13 rfl rfl)
theorem dJ13_checkLength_16 : decode cJ13_checkLength 16 = .ok (.iload_n 0, 1) := dk_26 (dk_at dksJ13_checkLength_0 16 rfl rfl)
theorem dJ13_checkLength_17 : decode cJ13_checkLength 17 = .ok (.invokevirtual 54, 3) := dk_182 0 54 (dk_at dksJ13_checkLength_0 17 rfl rfl)
theorem dJ13_checkLength_20 : decode cJ13_checkLength 20 = .ok (.ldc_w 337, 3) := dk_19 1 81 (dk_at dksJ13_checkLength_0 20 rfl rfl)
theorem dJ13_checkLength_23 : decode cJ13_checkLength 23 = .ok (.invokevirtual 50, 3) := dk_182 0 50 (dk_at dksJ13_checkLength_1 0 rfl rfl)
theorem dJ13_checkLength_26 : decode cJ13_checkLength 26 = .ok (.iload_n 1, 1) := dk_27 (dk_at dksJ13_checkLength_1 3 rfl rfl)
theorem dJ13_checkLength_27 : decode cJ13_checkLength 27 = .ok (.invokevirtual 54, 3) := dk_182 0 54 (dk_at dksJ13_checkLength_1 4 rfl rfl)
theorem dJ13_checkLength_30 : decode cJ13_checkLength 30 = .ok (.invokevirtual 61, 3) := dk_182 0 61 (dk_at dksJ13_checkLength_1 7 rfl rfl)
theorem dJ13_checkLength_33 : decode cJ13_checkLength 33 = .ok (.invokespecial 65, 3) := dk_183 0 65 (dk_at dksJ13_checkLength_1 10 rfl rfl)
theorem dJ13_checkLength_36 : decode cJ13_checkLength 36 = .ok (.athrow, 1) := dk_191 (dk_at dksJ13_checkLength_1 13 rfl rfl)
theorem dJ13_checkLength_37 : decode cJ13_checkLength 37 = .ok (.return_, 1) := dk_177 (dk_at dksJ13_checkLength_1 14 rfl rfl)
def dkwJ13_copyOfRangeByte_1 : List UInt8 := [184, 1, 48, 184, 0, 150, 25, 4, 176]
abbrev dktJ13_copyOfRangeByte_1 : List UInt8 := dkwJ13_copyOfRangeByte_1 ++ []
def dkwJ13_copyOfRangeByte_0 : List UInt8 := [27, 28, 184, 1, 87, 28, 27, 100, 62, 29, 188, 8, 58, 4, 42, 27, 25, 4, 3, 42, 190, 27, 100, 29]
abbrev dktJ13_copyOfRangeByte_0 : List UInt8 := dkwJ13_copyOfRangeByte_0 ++ dktJ13_copyOfRangeByte_1
theorem dksJ13_copyOfRangeByte_0 : cJ13_copyOfRangeByte.data.toList.drop 0 = dktJ13_copyOfRangeByte_0 := by decide +kernel
theorem dksJ13_copyOfRangeByte_1 : cJ13_copyOfRangeByte.data.toList.drop 24 = dktJ13_copyOfRangeByte_1 := dk_seg dksJ13_copyOfRangeByte_0 24 rfl rfl
theorem dJ13_copyOfRangeByte_0 : decode cJ13_copyOfRangeByte 0 = .ok (.iload_n 1, 1) := dk_27 (dk_at dksJ13_copyOfRangeByte_0 0 rfl rfl)
theorem dJ13_copyOfRangeByte_1 : decode cJ13_copyOfRangeByte 1 = .ok (.iload_n 2, 1) := dk_28 (dk_at dksJ13_copyOfRangeByte_0 1 rfl rfl)
theorem dJ13_copyOfRangeByte_2 : decode cJ13_copyOfRangeByte 2 = .ok (.invokestatic 343, 3) := dk_184 1 87 (dk_at dksJ13_copyOfRangeByte_0 2 rfl rfl)
theorem dJ13_copyOfRangeByte_5 : decode cJ13_copyOfRangeByte 5 = .ok (.iload_n 2, 1) := dk_28 (dk_at dksJ13_copyOfRangeByte_0 5 rfl rfl)
theorem dJ13_copyOfRangeByte_6 : decode cJ13_copyOfRangeByte 6 = .ok (.iload_n 1, 1) := dk_27 (dk_at dksJ13_copyOfRangeByte_0 6 rfl rfl)
theorem dJ13_copyOfRangeByte_7 : decode cJ13_copyOfRangeByte 7 = .ok (.isub, 1) := dk_100 (dk_at dksJ13_copyOfRangeByte_0 7 rfl rfl)
theorem dJ13_copyOfRangeByte_8 : decode cJ13_copyOfRangeByte 8 = .ok (.istore_n 3, 1) := dk_62 (dk_at dksJ13_copyOfRangeByte_0 8 rfl rfl)
theorem dJ13_copyOfRangeByte_9 : decode cJ13_copyOfRangeByte 9 = .ok (.iload_n 3, 1) := dk_29 (dk_at dksJ13_copyOfRangeByte_0 9 rfl rfl)
theorem dJ13_copyOfRangeByte_10 : decode cJ13_copyOfRangeByte 10 = .ok (.newarray .byte, 2) := dk_188_8 (dk_at dksJ13_copyOfRangeByte_0 10 rfl rfl)
theorem dJ13_copyOfRangeByte_12 : decode cJ13_copyOfRangeByte 12 = .ok (.astore 4, 2) := dk_58 4 (dk_at dksJ13_copyOfRangeByte_0 12 rfl rfl)
theorem dJ13_copyOfRangeByte_14 : decode cJ13_copyOfRangeByte 14 = .ok (.aload_n 0, 1) := dk_42 (dk_at dksJ13_copyOfRangeByte_0 14 rfl rfl)
theorem dJ13_copyOfRangeByte_15 : decode cJ13_copyOfRangeByte 15 = .ok (.iload_n 1, 1) := dk_27 (dk_at dksJ13_copyOfRangeByte_0 15 rfl rfl)
theorem dJ13_copyOfRangeByte_16 : decode cJ13_copyOfRangeByte 16 = .ok (.aload 4, 2) := dk_25 4 (dk_at dksJ13_copyOfRangeByte_0 16 rfl rfl)
theorem dJ13_copyOfRangeByte_18 : decode cJ13_copyOfRangeByte 18 = .ok (.iconst 0, 1) := dk_3 (dk_at dksJ13_copyOfRangeByte_0 18 rfl rfl)
theorem dJ13_copyOfRangeByte_19 : decode cJ13_copyOfRangeByte 19 = .ok (.aload_n 0, 1) := dk_42 (dk_at dksJ13_copyOfRangeByte_0 19 rfl rfl)
theorem dJ13_copyOfRangeByte_20 : decode cJ13_copyOfRangeByte 20 = .ok (.arraylength, 1) := dk_190 (dk_at dksJ13_copyOfRangeByte_0 20 rfl rfl)
theorem dJ13_copyOfRangeByte_21 : decode cJ13_copyOfRangeByte 21 = .ok (.iload_n 1, 1) := dk_27 (dk_at dksJ13_copyOfRangeByte_0 21 rfl rfl)
theorem dJ13_copyOfRangeByte_22 : decode cJ13_copyOfRangeByte 22 = .ok (.isub, 1) := dk_100 (dk_at dksJ13_copyOfRangeByte_0 22 rfl rfl)
theorem dJ13_copyOfRangeByte_23 : decode cJ13_copyOfRangeByte 23 = .ok (.iload_n 3, 1) := dk_29 (dk_at dksJ13_copyOfRangeByte_0 23 rfl rfl)
theorem dJ13_copyOfRangeByte_24 : decode cJ13_copyOfRangeByte 24 = .ok (.invokestatic 304, 3) := dk_184 1 48 (dk_at dksJ13_copyOfRangeByte_1 0 rfl rfl)
theorem dJ13_copyOfRangeByte_27 : decode cJ13_copyOfRangeByte 27 = .ok (.invokestatic 150, 3) := dk_184 0 150 (dk_at dksJ13_copyOfRangeByte_1 3 rfl rfl)
theorem dJ13_copyOfRangeByte_30 : decode cJ13_copyOfRangeByte 30 = .ok (.aload 4, 2) := dk_25 4 (dk_at dksJ13_copyOfRangeByte_1 6 rfl rfl)
theorem dJ13_copyOfRangeByte_32 : decode cJ13_copyOfRangeByte 32 = .ok (.areturn, 1) := dk_176 (dk_at dksJ13_copyOfRangeByte_1 8 rfl rfl)
theorem yd_J13_checkLength : yJ13_checkLength.cls ≠ "java/lang/invoke/MethodHandle" ∧ yJ13_checkLength.cls ≠ "java/lang/invoke/VarHandle" ∧ (parseMethodDescriptor yJ13_checkLength.desc).map (fun d => d.parameters.length) = some 2 := by decide +kernel
/-- bytes that fit -/
def fitB (n : Nat) (f : Nat → Int32) : Prop := ∀ i, i < n → fits .byte (.int (f i)) = true

set_option maxHeartbeats 1000000 in
theorem m_checkLength (l : Launch) (z : State) (H0 : Heap)  (u v : Nat) (h : u ≤ v) (hv : v < 2147483648) : Met l yJ13_checkLength (ws_ yJ13_checkLength cJ13_checkLength 2 (none)) { frames := 0, cells := 0, slots := 0, locals := 0 } (gPc z H0 [.int (nI u), .int (nI v)]) (gPv H0 (True)) 0 0 gno := by
  refine g_start (by decide +kernel) (Nat.le_of_ble_eq_true rfl) ?_
  intro p e s m below meth c ls hx hb hr hlocks hml hown hname hts hwm hl
  have hown : s.vm.findClass "java/util/Arrays" = some m.cls := hown
  have hal : z.vm.Alike s.vm := hwm.alike
  have hCF : CallFix p m c cJ13_checkLength 2 s [.int (nI u), .int (nI v)].toArray lw_all "java/util/Arrays" := ⟨hx, hb, hml, hown, hts⟩
  have hl : lv_has ls 2 [(0, .int (nI u)), (1, .int (nI v))] := hl
  refine lv_iload_n hx hb dJ13_checkLength_0 rfl (lv_at hl 1 rfl) ?_
  refine lv_iload_n hx hb dJ13_checkLength_1 rfl (lv_at hl 0 rfl) ?_
  refine lv_icmp_ge (tgt := 37) hx hb dJ13_checkLength_2 (by decide) (fun c_2 => ?_) (fun c_2 => absurd (by rw [Int32.le_iff_toInt_le, nI_iI, nI_iI, iI_toInt (by omega) (by omega), iI_toInt (by omega) (by omega)]; omega) c_2)
  refine g_vretP hx hb hr hlocks ?_ dJ13_checkLength_37
  trivial
set_option maxHeartbeats 1000000 in
theorem m_copyRangeB (l : Launch) (z : State) (H0 : Heap) (b : Nat) (u v n : Nat) (w : Bool) (f : Nat → Int32) (hu : u ≤ v) (hv : v ≤ n) (hn : n < 268435456) (hb0 : gI z w .byte H0 b n f) (hf : ∀ i, u ≤ i → i < v → fits .byte (.int (f i)) = true) : Met l yJ13_copyOfRangeByte (ws_ yJ13_copyOfRangeByte cJ13_copyOfRangeByte 5 (some (.array .byte))) { frames := 1, cells := 1, slots := (v - u), locals := 40 } (gPc z H0 [.ref b, .int (nI u), .int (nI v)]) (gRr (gfr H0) H0 (fun r H1 => H0.size ≤ r ∧ gI z true .byte H1 r (v - u) (fun i => f (u + i)))) 1 (v - u) (gfr H0) := by
  refine g_start (by decide +kernel) (Nat.le_of_ble_eq_true rfl) ?_
  intro p e s m below meth c ls hx hb hr hlocks hml hown hname hts hwm hl
  have hown : s.vm.findClass "java/util/Arrays" = some m.cls := hown
  have hal : z.vm.Alike s.vm := hwm.alike
  have hCF : CallFix p m c cJ13_copyOfRangeByte 5 s [.ref b, .int (nI u), .int (nI v)].toArray lw_all "java/util/Arrays" := ⟨hx, hb, hml, hown, hts⟩
  have hl : lv_has ls 5 [(0, .ref b), (1, .int (nI u)), (2, .int (nI v))] := hl
  have hS : va_S (gfr H0) H0 H0 [] := va_S.rf
  have lt_b := hb0.lt
  refine lv_iload_n hx hb dJ13_copyOfRangeByte_0 rfl (lv_at hl 1 rfl) ?_
  refine lv_iload_n hx hb dJ13_copyOfRangeByte_1 rfl (lv_at hl 2 rfl) ?_
  refine gcS2_vP hCF hwm hl.1 (m_checkLength l z H0  u v hu (by omega) ) (lw_S q481 q482 q73 q483) yd_J13_checkLength ⟨Nat.le_of_ble_eq_true rfl, Nat.le_of_ble_eq_true rfl⟩ ⟨by first | omega | (dsimp only; omega), by first | omega | (dsimp only; omega)⟩ (Nat.le_of_ble_eq_true rfl) dJ13_copyOfRangeByte_2 (fun hp => ?_)
  clear hp
  refine lv_iload_n hx hb dJ13_copyOfRangeByte_5 rfl (lv_at hl 2 rfl) ?_
  refine lv_iload_n hx hb dJ13_copyOfRangeByte_6 rfl (lv_at hl 1 rfl) ?_
  refine lv_isub hx hb dJ13_copyOfRangeByte_7 ?_
  refine g_topi (v := (nI (v - u))) (pk_sub (by omega)) ?_
  refine lv_istore_n hx hb dJ13_copyOfRangeByte_8 rfl hl (by decide) rfl (fun ls hl => ?_)
  have hl : lv_has ls 5 [(3, .int (nI (v - u))), (0, .ref b), (1, .int (nI u)), (2, .int (nI v))] := hl
  refine lv_iload_n hx hb dJ13_copyOfRangeByte_9 rfl (lv_at hl 0 rfl) ?_
  refine gw_newa (atype := .byte) (ty := .byte) (N' := (v - u)) hx hb (hts _ q167) rfl hal hS (rfl) (by omega) (by simp [componentBytes]; omega) (by first | omega | (dsimp only; omega)) (by first | omega | (dsimp only; omega)) dJ13_copyOfRangeByte_10 (fun q_1 H_2 eq_1 zq_1 hgx h_q_1 hS => ?_)
  have hb0 := hb0.x hgx
  have h_q_1 : gI z true .byte H_2 q_1 (v - u) (fun _ => 0) := h_q_1
  refine lv_astore hx hb dJ13_copyOfRangeByte_12 hl (by decide) rfl (fun ls hl => ?_)
  have hl : lv_has ls 5 [(4, .ref q_1), (3, .int (nI (v - u))), (0, .ref b), (1, .int (nI u)), (2, .int (nI v))] := hl
  refine lv_aload_n hx hb dJ13_copyOfRangeByte_14 rfl (lv_at hl 2 rfl) ?_
  refine lv_iload_n hx hb dJ13_copyOfRangeByte_15 rfl (lv_at hl 3 rfl) ?_
  refine lv_aload hx hb dJ13_copyOfRangeByte_16 (lv_at hl 0 rfl) ?_
  refine lv_iconst (v := 0) hx hb dJ13_copyOfRangeByte_18 (by decide) ?_
  refine lv_aload_n hx hb dJ13_copyOfRangeByte_19 rfl (lv_at hl 2 rfl) ?_
  refine gw_len hx hb hal hb0 dJ13_copyOfRangeByte_20 ?_
  refine lv_iload_n hx hb dJ13_copyOfRangeByte_21 rfl (lv_at hl 3 rfl) ?_
  refine lv_isub hx hb dJ13_copyOfRangeByte_22 ?_
  refine g_topi (v := (nI (n - u))) (pk_sub (by omega)) ?_
  refine lv_iload_n hx hb dJ13_copyOfRangeByte_23 rfl (lv_at hl 1 rfl) ?_
  refine gcS2_iP hCF hwm hl.1 (m_minI l z H_2 (nI (n - u)) (nI (v - u))  ) (lw_S q283 q284 q72 q285) yd_J12_min ⟨Nat.le_of_ble_eq_true rfl, Nat.le_of_ble_eq_true rfl⟩ ⟨by first | omega | (dsimp only; omega), by first | omega | (dsimp only; omega)⟩ (Nat.le_of_ble_eq_true rfl) dJ13_copyOfRangeByte_24 (fun r_3 hp => ?_)
  subst hp
  refine g_topi (v := (nI (v - u))) ?_ ?_
  · skip
    rw [nI_min (by omega) (by omega)]
    congr 1
    omega
  refine gw_copy hx hb (hml.trans hl.1.symm) hal hown (hts _ q286) (hts _ q288) (hts _ q287) (hts _ q74) rfl hb0 h_q_1 hS (Nat.le_of_eq eq_1.symm) u 0 (v - u) (rfl) (rfl) (rfl) (by omega) (by omega) (by omega) (by omega) (fun i hi => hf _ (by omega) (by omega)) (Nat.le_of_ble_eq_true rfl) (Nat.le_of_ble_eq_true rfl) dJ13_copyOfRangeByte_27 (fun H_4 locs h_new hch hS => ?_)
  have hb0 := hb0.ch hch (by omega)
  have sz_H_4 := hch.1
  clear hch
  have h_q_1 : gI z true .byte H_4 q_1 (v - u) (va_cpy f (fun _ => 0) u 0 (v - u)) := h_new
  refine lv_aload hx hb dJ13_copyOfRangeByte_30 (lv_at hl 0 rfl) ?_
  refine g_aret hx hb hr hlocks (Or.inr ⟨_, rfl⟩) hS (by first | omega | (dsimp only; omega)) (by first | omega | (dsimp only; omega)) ?_ dJ13_copyOfRangeByte_32
  refine ⟨by omega, ?_⟩
  refine gA.cg h_q_1 ?_
  intro j hj
  show Value.int (va_cpy f (fun _ => 0) u 0 (v - u) j) = _
  unfold va_cpy
  rw [if_pos (by omega)]
  rfl
