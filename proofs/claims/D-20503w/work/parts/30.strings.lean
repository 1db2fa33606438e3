/-! ## walks (written by tools) -/
set_option maxRecDepth 100000
def dkwJ14_checkIndex_0 : List UInt8 := [26, 155, 0, 8, 26, 27, 161, 0, 10, 44, 26, 27, 184, 0, 95, 191, 26, 172]
abbrev dktJ14_checkIndex_0 : List UInt8 := dkwJ14_checkIndex_0 ++ []
theorem dksJ14_checkIndex_0 : cJ14_checkIndex.data.toList.drop 0 = dktJ14_checkIndex_0 := by decide +kernel
theorem dJ14_checkIndex_0 : decode cJ14_checkIndex 0 = .ok (.iload_n 0, 1) := dk_26 (dk_at dksJ14_checkIndex_0 0 rfl rfl)
theorem dJ14_checkIndex_1 : decode cJ14_checkIndex 1 = .ok (.ifCond .lt 8, 3) := dk_155 0 8 (dk_at dksJ14_checkIndex_0 1 rfl rfl)
theorem dJ14_checkIndex_4 : decode cJ14_checkIndex 4 = .ok (.iload_n 0, 1) := dk_26 (dk_at dksJ14_checkIndex_0 4 rfl rfl)
theorem dJ14_checkIndex_5 : decode cJ14_checkIndex 5 = .ok (.iload_n 1, 1) := dk_27 (dk_at dksJ14_checkIndex_0 5 rfl rfl)
theorem dJ14_checkIndex_6 : decode cJ14_checkIndex 6 = .ok (.if_icmp .lt 10, 3) := dk_161 0 10 (dk_at dksJ14_checkIndex_0 6 rfl rfl)
theorem dJ14_checkIndex_9 : decode cJ14_checkIndex 9 = .ok (.aload_n 2, 1) := dk_44 (dk_at dksJ14_checkIndex_0 9 rfl rfl)
theorem dJ14_checkIndex_10 : decode cJ14_checkIndex 10 = .ok (.iload_n 0, 1) := dk_26 (dk_at dksJ14_checkIndex_0 10 rfl rfl)
theorem dJ14_checkIndex_11 : decode cJ14_checkIndex 11 = .ok (.iload_n 1, 1) := dk_27 (dk_at dksJ14_checkIndex_0 11 rfl rfl)
theorem dJ14_checkIndex_12 : decode cJ14_checkIndex 12 = .ok (.invokestatic 95, 3) := dk_184 0 95 (dk_at dksJ14_checkIndex_0 12 rfl rfl)
theorem dJ14_checkIndex_15 : decode cJ14_checkIndex 15 = .ok (.athrow, 1) := dk_191 (dk_at dksJ14_checkIndex_0 15 rfl rfl)
theorem dJ14_checkIndex_16 : decode cJ14_checkIndex 16 = .ok (.iload_n 0, 1) := dk_26 (dk_at dksJ14_checkIndex_0 16 rfl rfl)
theorem dJ14_checkIndex_17 : decode cJ14_checkIndex 17 = .ok (.ireturn, 1) := dk_172 (dk_at dksJ14_checkIndex_0 17 rfl rfl)
def dkwJ5_checkIndex_0 : List UInt8 := [26, 27, 178, 4, 29, 184, 4, 35, 87, 177]
abbrev dktJ5_checkIndex_0 : List UInt8 := dkwJ5_checkIndex_0 ++ []
theorem dksJ5_checkIndex_0 : cJ5_checkIndex.data.toList.drop 0 = dktJ5_checkIndex_0 := by decide +kernel
theorem dJ5_checkIndex_0 : decode cJ5_checkIndex 0 = .ok (.iload_n 0, 1) := dk_26 (dk_at dksJ5_checkIndex_0 0 rfl rfl)
theorem dJ5_checkIndex_1 : decode cJ5_checkIndex 1 = .ok (.iload_n 1, 1) := dk_27 (dk_at dksJ5_checkIndex_0 1 rfl rfl)
theorem dJ5_checkIndex_2 : decode cJ5_checkIndex 2 = .ok (.getstatic 1053, 3) := dk_178 4 29 (dk_at dksJ5_checkIndex_0 2 rfl rfl)
theorem dJ5_checkIndex_5 : decode cJ5_checkIndex 5 = .ok (.invokestatic 1059, 3) := dk_184 4 35 (dk_at dksJ5_checkIndex_0 5 rfl rfl)
theorem dJ5_checkIndex_8 : decode cJ5_checkIndex 8 = .ok (.pop, 1) := dk_87 (dk_at dksJ5_checkIndex_0 8 rfl rfl)
theorem dJ5_checkIndex_9 : decode cJ5_checkIndex 9 = .ok (.return_, 1) := dk_177 (dk_at dksJ5_checkIndex_0 9 rfl rfl)
def dkwJ5_coder_0 : List UInt8 := [178, 0, 38, 153, 0, 10, 42, 180, 0, 15, 167, 0, 4, 4, 172]
abbrev dktJ5_coder_0 : List UInt8 := dkwJ5_coder_0 ++ []
theorem dksJ5_coder_0 : cJ5_coder.data.toList.drop 0 = dktJ5_coder_0 := by decide +kernel
theorem dJ5_coder_0 : decode cJ5_coder 0 = .ok (.getstatic 38, 3) := dk_178 0 38 (dk_at dksJ5_coder_0 0 rfl rfl)
theorem dJ5_coder_3 : decode cJ5_coder 3 = .ok (.ifCond .eq 10, 3) := dk_153 0 10 (dk_at dksJ5_coder_0 3 rfl rfl)
theorem dJ5_coder_6 : decode cJ5_coder 6 = .ok (.aload_n 0, 1) := dk_42 (dk_at dksJ5_coder_0 6 rfl rfl)
theorem dJ5_coder_7 : decode cJ5_coder 7 = .ok (.getfield 15, 3) := dk_180 0 15 (dk_at dksJ5_coder_0 7 rfl rfl)
theorem dJ5_coder_10 : decode cJ5_coder 10 = .ok (.goto 4, 3) := dk_167 0 4 (dk_at dksJ5_coder_0 10 rfl rfl)
theorem dJ5_coder_13 : decode cJ5_coder 13 = .ok (.iconst 1, 1) := dk_4 (dk_at dksJ5_coder_0 13 rfl rfl)
theorem dJ5_coder_14 : decode cJ5_coder 14 = .ok (.ireturn, 1) := dk_172 (dk_at dksJ5_coder_0 14 rfl rfl)
def dkwJ5_isLatin1_0 : List UInt8 := [178, 0, 38, 153, 0, 14, 42, 180, 0, 15, 154, 0, 7, 4, 167, 0, 4, 3, 172]
abbrev dktJ5_isLatin1_0 : List UInt8 := dkwJ5_isLatin1_0 ++ []
theorem dksJ5_isLatin1_0 : cJ5_isLatin1.data.toList.drop 0 = dktJ5_isLatin1_0 := by decide +kernel
theorem dJ5_isLatin1_0 : decode cJ5_isLatin1 0 = .ok (.getstatic 38, 3) := dk_178 0 38 (dk_at dksJ5_isLatin1_0 0 rfl rfl)
theorem dJ5_isLatin1_3 : decode cJ5_isLatin1 3 = .ok (.ifCond .eq 14, 3) := dk_153 0 14 (dk_at dksJ5_isLatin1_0 3 rfl rfl)
theorem dJ5_isLatin1_6 : decode cJ5_isLatin1 6 = .ok (.aload_n 0, 1) := dk_42 (dk_at dksJ5_isLatin1_0 6 rfl rfl)
theorem dJ5_isLatin1_7 : decode cJ5_isLatin1 7 = .ok (.getfield 15, 3) := dk_180 0 15 (dk_at dksJ5_isLatin1_0 7 rfl rfl)
theorem dJ5_isLatin1_10 : decode cJ5_isLatin1 10 = .ok (.ifCond .ne 7, 3) := dk_154 0 7 (dk_at dksJ5_isLatin1_0 10 rfl rfl)
theorem dJ5_isLatin1_13 : decode cJ5_isLatin1 13 = .ok (.iconst 1, 1) := dk_4 (dk_at dksJ5_isLatin1_0 13 rfl rfl)
theorem dJ5_isLatin1_14 : decode cJ5_isLatin1 14 = .ok (.goto 4, 3) := dk_167 0 4 (dk_at dksJ5_isLatin1_0 14 rfl rfl)
theorem dJ5_isLatin1_17 : decode cJ5_isLatin1 17 = .ok (.iconst 0, 1) := dk_3 (dk_at dksJ5_isLatin1_0 17 rfl rfl)
theorem dJ5_isLatin1_18 : decode cJ5_isLatin1 18 = .ok (.ireturn, 1) := dk_172 (dk_at dksJ5_isLatin1_0 18 rfl rfl)
theorem dJ5_value_0 : decode cJ5_value 0 = .ok (.aload_n 0, 1) := by decide +kernel
theorem dJ5_value_1 : decode cJ5_value 1 = .ok (.getfield 9, 3) := by decide +kernel
theorem dJ5_value_4 : decode cJ5_value 4 = .ok (.areturn, 1) := by decide +kernel
def dkwJ5_length_0 : List UInt8 := [42, 180, 0, 9, 190, 42, 182, 1, 79, 122, 172]
abbrev dktJ5_length_0 : List UInt8 := dkwJ5_length_0 ++ []
theorem dksJ5_length_0 : cJ5_length.data.toList.drop 0 = dktJ5_length_0 := by decide +kernel
theorem dJ5_length_0 : decode cJ5_length 0 = .ok (.aload_n 0, 1) := dk_42 (dk_at dksJ5_length_0 0 rfl rfl)
theorem dJ5_length_1 : decode cJ5_length 1 = .ok (.getfield 9, 3) := dk_180 0 9 (dk_at dksJ5_length_0 1 rfl rfl)
theorem dJ5_length_4 : decode cJ5_length 4 = .ok (.arraylength, 1) := dk_190 (dk_at dksJ5_length_0 4 rfl rfl)
theorem dJ5_length_5 : decode cJ5_length 5 = .ok (.aload_n 0, 1) := dk_42 (dk_at dksJ5_length_0 5 rfl rfl)
theorem dJ5_length_6 : decode cJ5_length 6 = .ok (.invokevirtual 335, 3) := dk_182 1 79 (dk_at dksJ5_length_0 6 rfl rfl)
theorem dJ5_length_9 : decode cJ5_length 9 = .ok (.ishr, 1) := dk_122 (dk_at dksJ5_length_0 9 rfl rfl)
theorem dJ5_length_10 : decode cJ5_length 10 = .ok (.ireturn, 1) := dk_172 (dk_at dksJ5_length_0 10 rfl rfl)
def dkwJ15_charAt_0 : List UInt8 := [27, 42, 190, 184, 0, 9, 42, 27, 51, 17, 0, 255, 126, 146, 172]
abbrev dktJ15_charAt_0 : List UInt8 := dkwJ15_charAt_0 ++ []
theorem dksJ15_charAt_0 : cJ15_charAt.data.toList.drop 0 = dktJ15_charAt_0 := by decide +kernel
theorem dJ15_charAt_0 : decode cJ15_charAt 0 = .ok (.iload_n 1, 1) := dk_27 (dk_at dksJ15_charAt_0 0 rfl rfl)
theorem dJ15_charAt_1 : decode cJ15_charAt 1 = .ok (.aload_n 0, 1) := dk_42 (dk_at dksJ15_charAt_0 1 rfl rfl)
theorem dJ15_charAt_2 : decode cJ15_charAt 2 = .ok (.arraylength, 1) := dk_190 (dk_at dksJ15_charAt_0 2 rfl rfl)
theorem dJ15_charAt_3 : decode cJ15_charAt 3 = .ok (.invokestatic 9, 3) := dk_184 0 9 (dk_at dksJ15_charAt_0 3 rfl rfl)
theorem dJ15_charAt_6 : decode cJ15_charAt 6 = .ok (.aload_n 0, 1) := dk_42 (dk_at dksJ15_charAt_0 6 rfl rfl)
theorem dJ15_charAt_7 : decode cJ15_charAt 7 = .ok (.iload_n 1, 1) := dk_27 (dk_at dksJ15_charAt_0 7 rfl rfl)
theorem dJ15_charAt_8 : decode cJ15_charAt 8 = .ok (.baload, 1) := dk_51 (dk_at dksJ15_charAt_0 8 rfl rfl)
theorem dJ15_charAt_9 : decode cJ15_charAt 9 = .ok (.sipush 255, 3) := dk_17 0 255 (dk_at dksJ15_charAt_0 9 rfl rfl)
theorem dJ15_charAt_12 : decode cJ15_charAt 12 = .ok (.iand, 1) := dk_126 (dk_at dksJ15_charAt_0 12 rfl rfl)
theorem dJ15_charAt_13 : decode cJ15_charAt 13 = .ok (.i2c, 1) := dk_146 (dk_at dksJ15_charAt_0 13 rfl rfl)
theorem dJ15_charAt_14 : decode cJ15_charAt 14 = .ok (.ireturn, 1) := dk_172 (dk_at dksJ15_charAt_0 14 rfl rfl)
def dkwJ5_charAt_1 : List UInt8 := [172]
abbrev dktJ5_charAt_1 : List UInt8 := dkwJ5_charAt_1 ++ []
def dkwJ5_charAt_0 : List UInt8 := [42, 182, 1, 236, 153, 0, 12, 42, 180, 0, 9, 27, 184, 1, 239, 172, 42, 180, 0, 9, 27, 184, 1, 242]
abbrev dktJ5_charAt_0 : List UInt8 := dkwJ5_charAt_0 ++ dktJ5_charAt_1
theorem dksJ5_charAt_0 : cJ5_charAt.data.toList.drop 0 = dktJ5_charAt_0 := by decide +kernel
theorem dksJ5_charAt_1 : cJ5_charAt.data.toList.drop 24 = dktJ5_charAt_1 := dk_seg dksJ5_charAt_0 24 rfl rfl
theorem dJ5_charAt_0 : decode cJ5_charAt 0 = .ok (.aload_n 0, 1) := dk_42 (dk_at dksJ5_charAt_0 0 rfl rfl)
theorem dJ5_charAt_1 : decode cJ5_charAt 1 = .ok (.invokevirtual 492, 3) := dk_182 1 236 (dk_at dksJ5_charAt_0 1 rfl rfl)
theorem dJ5_charAt_4 : decode cJ5_charAt 4 = .ok (.ifCond .eq 12, 3) := dk_153 0 12 (dk_at dksJ5_charAt_0 4 rfl rfl)
theorem dJ5_charAt_7 : decode cJ5_charAt 7 = .ok (.aload_n 0, 1) := dk_42 (dk_at dksJ5_charAt_0 7 rfl rfl)
theorem dJ5_charAt_8 : decode cJ5_charAt 8 = .ok (.getfield 9, 3) := dk_180 0 9 (dk_at dksJ5_charAt_0 8 rfl rfl)
theorem dJ5_charAt_11 : decode cJ5_charAt 11 = .ok (.iload_n 1, 1) := dk_27 (dk_at dksJ5_charAt_0 11 rfl rfl)
theorem dJ5_charAt_12 : decode cJ5_charAt 12 = .ok (.invokestatic 495, 3) := dk_184 1 239 (dk_at dksJ5_charAt_0 12 rfl rfl)
theorem dJ5_charAt_15 : decode cJ5_charAt 15 = .ok (.ireturn, 1) := dk_172 (dk_at dksJ5_charAt_0 15 rfl rfl)
theorem dJ5_charAt_16 : decode cJ5_charAt 16 = .ok (.aload_n 0, 1) := dk_42 (dk_at dksJ5_charAt_0 16 rfl rfl)
theorem dJ5_charAt_17 : decode cJ5_charAt 17 = .ok (.getfield 9, 3) := dk_180 0 9 (dk_at dksJ5_charAt_0 17 rfl rfl)
theorem dJ5_charAt_20 : decode cJ5_charAt 20 = .ok (.iload_n 1, 1) := dk_27 (dk_at dksJ5_charAt_0 20 rfl rfl)
theorem dJ5_charAt_21 : decode cJ5_charAt 21 = .ok (.invokestatic 498, 3) := dk_184 1 242 (dk_at dksJ5_charAt_0 21 rfl rfl)
theorem dJ5_charAt_24 : decode cJ5_charAt 24 = .ok (.ireturn, 1) := dk_172 (dk_at dksJ5_charAt_1 0 rfl rfl)
theorem yd_J14_checkIndex : yJ14_checkIndex.cls ≠ "java/lang/invoke/MethodHandle" ∧ yJ14_checkIndex.cls ≠ "java/lang/invoke/VarHandle" ∧ (parseMethodDescriptor yJ14_checkIndex.desc).map (fun d => d.parameters.length) = some 3 := by decide +kernel
theorem yd_J15_charAt : yJ15_charAt.cls ≠ "java/lang/invoke/MethodHandle" ∧ yJ15_charAt.cls ≠ "java/lang/invoke/VarHandle" ∧ (parseMethodDescriptor yJ15_charAt.desc).map (fun d => d.parameters.length) = some 2 := by decide +kernel
theorem yd_J5_checkIndex : yJ5_checkIndex.cls ≠ "java/lang/invoke/MethodHandle" ∧ yJ5_checkIndex.cls ≠ "java/lang/invoke/VarHandle" ∧ (parseMethodDescriptor yJ5_checkIndex.desc).map (fun d => d.parameters.length) = some 2 := by decide +kernel
theorem ydv_J5_coder : yJ5_coder.cls = "java/lang/String" ∧ yJ5_coder.cls ≠ "java/lang/invoke/MethodHandle" ∧ yJ5_coder.cls ≠ "java/lang/invoke/VarHandle" ∧ (parseMethodDescriptor yJ5_coder.desc).map (fun d => d.parameters.length) = some 0 := by decide +kernel
theorem ydv_J5_isLatin1 : yJ5_isLatin1.cls = "java/lang/String" ∧ yJ5_isLatin1.cls ≠ "java/lang/invoke/MethodHandle" ∧ yJ5_isLatin1.cls ≠ "java/lang/invoke/VarHandle" ∧ (parseMethodDescriptor yJ5_isLatin1.desc).map (fun d => d.parameters.length) = some 0 := by decide +kernel
/-! ### Strings -/
theorem nI_n0 {n : Nat} (h : n < 2147483648) : ¬ nI n < 0 := by
  rw [nI_iI, Int32.lt_iff_toInt_lt, iI_toInt (by omega) (by omega)]
  have e0 : (0 : Int32).toInt = 0 := by decide
  rw [e0]
  omega
/-- nothing, or an object -/
def isR (v : Value) : Prop := v = .null ∨ ∃ a, v = .ref a
/-- statics that the text's methods read -/
def sS (z : State) (k : Nat → Nat) (fv : Nat → Value) (A : Nat → Prop) (H : Heap) : Prop :=
  gZ z "java/lang/String" "COMPACT_STRINGS" "Z" (.int 1) A H ∧ gZ z "jdk/internal/util/Preconditions" "SIOOBE_FORMATTER" "Ljava/util/function/BiFunction;" (fv 0) A H ∧ gZ z "jdk/internal/util/Preconditions" "IOOBE_FORMATTER" "Ljava/util/function/BiFunction;" (fv 1) A H ∧ sD z k A H ∧ ∀ i, isR (fv i)
theorem sS.call {z : State} {k : Nat → Nat} {fv : Nat → Value} {A A1 : Nat → Prop} {H0 H : Heap} {locs : List Loc} (h : sS z k fv A H0) (hS : va_S A H0 H locs) (hA : ∀ q, A1 q → A q) : sS z k fv A1 H :=
  ⟨h.1.call hS hA, h.2.1.call hS hA, h.2.2.1.call hS hA, h.2.2.2.1.call hS hA, h.2.2.2.2⟩
theorem sS.cur {z : State} {k : Nat → Nat} {fv : Nat → Value} {A : Nat → Prop} {H0 H : Heap} {locs : List Loc} (h : sS z k fv A H0) (hS : va_S A H0 H locs) : sS z k fv A H := h.call hS (fun _ q => q)
/-- a text's bytes -/
def bof (T : List Nat) : Nat → Int32 := fun i => nI (T.getD i 0)
/-- a text that fits, of plain letters -/
def tx (T : List Nat) : Prop := T.length < 2147483648 ∧ ∀ c ∈ T, c < 128
/-- the String at a, its bytes at b -/
def gS (z : State) (w : Bool) (H : Heap) (a b : Nat) (T : List Nat) : Prop := ∃ h hz : Int32, gO z w RJ5 TJ5 4 H a [.ref b, .int 0, .int h, .int hz] ∧ gI z w .byte H b T.length (bof T) ∧ tx T
theorem tx_at {T : List Nat} (h : tx T) (i : Nat) : T.getD i 0 < 128 := by
  rcases Nat.lt_or_ge i T.length with q | q
  · rw [List.getD_eq_getElem?_getD, List.getElem?_eq_getElem q]
    exact h.2 _ (List.getElem_mem q)
  · rw [List.getD_eq_getElem?_getD, List.getElem?_eq_none q]
    decide
theorem narC {c : Nat} (h : c < 128) : narrow .char (.int (nI c)) = .int (nI c) := by
  have : ∀ c, c < 128 → narrow .char (.int (nI c)) = .int (nI c) := by decide +kernel
  exact this c h
theorem ch8 : ∀ {c}, c < 128 → ((nI c &&& 255).toUInt32 % 65536).toInt32 = nI c := by
  intro c h
  have : ∀ c, c < 128 → ((nI c &&& 255).toUInt32 % 65536).toInt32 = nI c := by decide +kernel
  exact this c h
theorem shr0 {n : Nat} (h : n < 2147483648) : nI n >>> ((0 : Int32) &&& 31) = nI n := by
  have e : ((0 : Int32) &&& 31) = 0 := by decide
  rw [e]
  simp

set_option maxHeartbeats 1000000 in
theorem m_checkIndexP_n (l : Launch) (z : State) (H0 : Heap)  (i n : Nat) (hi : i < n) (hn : n < 2147483648) : Met l yJ14_checkIndex (ws_ yJ14_checkIndex cJ14_checkIndex 3 (some .int)) { frames := 0, cells := 0, slots := 0, locals := 0 } (gPc z H0 [.int (nI i), .int (nI n),  .null]) (gPi H0 (fun r => r = nI i)) 0 0 gno := by
  refine g_start (by decide +kernel) (Nat.le_of_ble_eq_true rfl) ?_
  intro p e s m below meth c ls hx hb hr hlocks hml hown hname hts hwm hl
  have hown : s.vm.findClass "jdk/internal/util/Preconditions" = some m.cls := hown
  have hal : z.vm.Alike s.vm := hwm.alike
  have hCF : CallFix p m c cJ14_checkIndex 3 s [.int (nI i), .int (nI n),  .null].toArray lw_all "jdk/internal/util/Preconditions" := ⟨hx, hb, hml, hown, hts⟩
  have hl : lv_has ls 3 [(0, .int (nI i)), (1, .int (nI n)), (2,  .null)] := hl
  refine lv_iload_n hx hb dJ14_checkIndex_0 rfl (lv_at hl 0 rfl) ?_
  refine lv_if_lt (tgt := 9) hx hb dJ14_checkIndex_1 (by decide) (fun c_1 => absurd c_1 (nI_n0 (by omega))) (fun c_1 => ?_)
  refine lv_iload_n hx hb dJ14_checkIndex_4 rfl (lv_at hl 0 rfl) ?_
  refine lv_iload_n hx hb dJ14_checkIndex_5 rfl (lv_at hl 1 rfl) ?_
  refine lv_icmp_lt (tgt := 16) hx hb dJ14_checkIndex_6 (by decide) (fun c_6 => ?_) (fun c_6 => absurd ((nI_ltI (by omega) (by omega)).mpr hi) c_6)
  refine lv_iload_n hx hb dJ14_checkIndex_16 rfl (lv_at hl 0 rfl) ?_
  refine g_iretP hx hb hr hlocks ?_ dJ14_checkIndex_17
  rfl
set_option maxHeartbeats 1000000 in
theorem m_checkIndexP_r (l : Launch) (z : State) (H0 : Heap) (fa : Nat) (i n : Nat) (hi : i < n) (hn : n < 2147483648) : Met l yJ14_checkIndex (ws_ yJ14_checkIndex cJ14_checkIndex 3 (some .int)) { frames := 0, cells := 0, slots := 0, locals := 0 } (gPc z H0 [.int (nI i), .int (nI n), .ref fa]) (gPi H0 (fun r => r = nI i)) 0 0 gno := by
  refine g_start (by decide +kernel) (Nat.le_of_ble_eq_true rfl) ?_
  intro p e s m below meth c ls hx hb hr hlocks hml hown hname hts hwm hl
  have hown : s.vm.findClass "jdk/internal/util/Preconditions" = some m.cls := hown
  have hal : z.vm.Alike s.vm := hwm.alike
  have hCF : CallFix p m c cJ14_checkIndex 3 s [.int (nI i), .int (nI n), .ref fa].toArray lw_all "jdk/internal/util/Preconditions" := ⟨hx, hb, hml, hown, hts⟩
  have hl : lv_has ls 3 [(0, .int (nI i)), (1, .int (nI n)), (2, .ref fa)] := hl
  refine lv_iload_n hx hb dJ14_checkIndex_0 rfl (lv_at hl 0 rfl) ?_
  refine lv_if_lt (tgt := 9) hx hb dJ14_checkIndex_1 (by decide) (fun c_1 => absurd c_1 (nI_n0 (by omega))) (fun c_1 => ?_)
  refine lv_iload_n hx hb dJ14_checkIndex_4 rfl (lv_at hl 0 rfl) ?_
  refine lv_iload_n hx hb dJ14_checkIndex_5 rfl (lv_at hl 1 rfl) ?_
  refine lv_icmp_lt (tgt := 16) hx hb dJ14_checkIndex_6 (by decide) (fun c_6 => ?_) (fun c_6 => absurd ((nI_ltI (by omega) (by omega)).mpr hi) c_6)
  refine lv_iload_n hx hb dJ14_checkIndex_16 rfl (lv_at hl 0 rfl) ?_
  refine g_iretP hx hb hr hlocks ?_ dJ14_checkIndex_17
  rfl
theorem m_checkIndexP (l : Launch) (z : State) (H0 : Heap)  (fa : Value) (i n : Nat) (hi : i < n) (hn : n < 2147483648) (hfa : isR fa) : Met l yJ14_checkIndex (ws_ yJ14_checkIndex cJ14_checkIndex 3 (some .int)) { frames := 0, cells := 0, slots := 0, locals := 0 } (gPc z H0 [.int (nI i), .int (nI n), fa]) (gPi H0 (fun r => r = nI i)) 0 0 gno := by
  rcases hfa with e | ⟨a, e⟩ <;> subst e
  · exact m_checkIndexP_n l z H0  i n hi hn
  · exact m_checkIndexP_r l z H0  a i n hi hn
set_option maxHeartbeats 1000000 in
theorem m_checkIndexS (l : Launch) (z : State) (H0 : Heap)  (i n : Nat) {A : Nat → Prop} (k : Nat → Nat) (fv : Nat → Value) (hi : i < n) (hn : n < 2147483648) (hs : sS z k fv A H0) : Met l yJ5_checkIndex (ws_ yJ5_checkIndex cJ5_checkIndex 2 (none)) { frames := 1, cells := 0, slots := 0, locals := 22 } (gPc z H0 [.int (nI i), .int (nI n)]) (gPv H0 (True)) 0 0 gno := by
  refine g_start (by decide +kernel) (Nat.le_of_ble_eq_true rfl) ?_
  intro p e s m below meth c ls hx hb hr hlocks hml hown hname hts hwm hl
  have hown : s.vm.findClass "java/lang/String" = some m.cls := hown
  have hal : z.vm.Alike s.vm := hwm.alike
  have hCF : CallFix p m c cJ5_checkIndex 2 s [.int (nI i), .int (nI n)].toArray lw_all "java/lang/String" := ⟨hx, hb, hml, hown, hts⟩
  have hl : lv_has ls 2 [(0, .int (nI i)), (1, .int (nI n))] := hl
  refine lv_iload_n hx hb dJ5_checkIndex_0 rfl (lv_at hl 0 rfl) ?_
  refine lv_iload_n hx hb dJ5_checkIndex_1 rfl (lv_at hl 1 rfl) ?_
  refine gw_getsP hx hb hal hs.2.1 hown (hts _ q307) (fun _ h9 => h9) dJ5_checkIndex_2 ?_
  refine gcS3_iP hCF hwm hl.1 (m_checkIndexP l z H0 (fv 0) i n hi hn (hs.2.2.2.2 0) ) (lw_S q552 q553 q75 q554) yd_J14_checkIndex ⟨Nat.le_of_ble_eq_true rfl, Nat.le_of_ble_eq_true rfl⟩ ⟨Nat.le_of_ble_eq_true rfl, Nat.le_of_ble_eq_true rfl⟩ (Nat.le_of_ble_eq_true rfl) dJ5_checkIndex_5 (fun r_1 hp => ?_)
  subst hp
  refine lv_pop hx hb dJ5_checkIndex_8 rfl ?_
  refine g_vretP hx hb hr hlocks ?_ dJ5_checkIndex_9
  trivial
set_option maxHeartbeats 1000000 in
theorem m_coder (l : Launch) (z : State) (H0 : Heap) (a : Nat)  (w : Bool) (b : Nat) (T : List Nat) {A : Nat → Prop} (k : Nat → Nat) (fv : Nat → Value) (hstr : gS z w H0 a b T) (hs : sS z k fv A H0) : Met l yJ5_coder (ws_ yJ5_coder cJ5_coder 1 (some .byte)) { frames := 0, cells := 0, slots := 0, locals := 0 } (gPc z H0 [.ref a]) (gPi H0 (fun r => r = 0)) 0 0 gno := by
  refine g_start (by decide +kernel) (Nat.le_of_ble_eq_true rfl) ?_
  intro p e s m below meth c ls hx hb hr hlocks hml hown hname hts hwm hl
  have hown : s.vm.findClass "java/lang/String" = some m.cls := hown
  have hal : z.vm.Alike s.vm := hwm.alike
  have hCF : CallFix p m c cJ5_coder 1 s [.ref a].toArray lw_all "java/lang/String" := ⟨hx, hb, hml, hown, hts⟩
  have hl : lv_has ls 1 [(0, .ref a)] := hl
  obtain ⟨h, hz, hO, hB, hT⟩ := hstr
  refine gw_getsP hx hb hal hs.1 hown (hts _ q226) (fun _ h9 => h9) dJ5_coder_0 ?_
  refine lv_if_eq (tgt := 13) hx hb dJ5_coder_3 (by decide) (fun c_3 => absurd c_3 (by decide)) (fun c_3 => ?_)
  refine lv_aload_n hx hb dJ5_coder_6 rfl (lv_at hl 0 rfl) ?_
  refine gw_get (C := RJ5) (T := TJ5) (N := 4) (v := .int 0) hx hb hts in_J5 hown hal hO 1 (by decide) (hts _ q524) (fun _ h9 => h9) rfl dJ5_coder_7 ?_
  refine lv_goto (tgt := 14) hx hb dJ5_coder_10 (by decide) ?_
  refine g_zretP hx hb hr hlocks (rfl) ?_ dJ5_coder_14
  rfl
set_option maxHeartbeats 1000000 in
theorem m_isLatin1 (l : Launch) (z : State) (H0 : Heap) (a : Nat)  (w : Bool) (b : Nat) (T : List Nat) {A : Nat → Prop} (k : Nat → Nat) (fv : Nat → Value) (hstr : gS z w H0 a b T) (hs : sS z k fv A H0) : Met l yJ5_isLatin1 (ws_ yJ5_isLatin1 cJ5_isLatin1 1 (some .boolean)) { frames := 0, cells := 0, slots := 0, locals := 0 } (gPc z H0 [.ref a]) (gPi H0 (fun r => r = 1)) 0 0 gno := by
  refine g_start (by decide +kernel) (Nat.le_of_ble_eq_true rfl) ?_
  intro p e s m below meth c ls hx hb hr hlocks hml hown hname hts hwm hl
  have hown : s.vm.findClass "java/lang/String" = some m.cls := hown
  have hal : z.vm.Alike s.vm := hwm.alike
  have hCF : CallFix p m c cJ5_isLatin1 1 s [.ref a].toArray lw_all "java/lang/String" := ⟨hx, hb, hml, hown, hts⟩
  have hl : lv_has ls 1 [(0, .ref a)] := hl
  obtain ⟨h, hz, hO, hB, hT⟩ := hstr
  refine gw_getsP hx hb hal hs.1 hown (hts _ q226) (fun _ h9 => h9) dJ5_isLatin1_0 ?_
  refine lv_if_eq (tgt := 17) hx hb dJ5_isLatin1_3 (by decide) (fun c_3 => absurd c_3 (by decide)) (fun c_3 => ?_)
  refine lv_aload_n hx hb dJ5_isLatin1_6 rfl (lv_at hl 0 rfl) ?_
  refine gw_get (C := RJ5) (T := TJ5) (N := 4) (v := .int 0) hx hb hts in_J5 hown hal hO 1 (by decide) (hts _ q524) (fun _ h9 => h9) rfl dJ5_isLatin1_7 ?_
  refine lv_if_ne (tgt := 17) hx hb dJ5_isLatin1_10 (by decide) (fun c_10 => absurd (rfl) c_10) (fun c_10 => ?_)
  refine lv_iconst (v := 1) hx hb dJ5_isLatin1_13 (by decide) ?_
  refine lv_goto (tgt := 18) hx hb dJ5_isLatin1_14 (by decide) ?_
  refine g_zretP hx hb hr hlocks (rfl) ?_ dJ5_isLatin1_18
  rfl
set_option maxHeartbeats 1000000 in
theorem m_value (l : Launch) (z : State) (H0 : Heap) (a : Nat)  (w : Bool) (b : Nat) (T : List Nat) {A : Nat → Prop} (k : Nat → Nat) (fv : Nat → Value) (hstr : gS z w H0 a b T) (hs : sS z k fv A H0) : Met l yJ5_value (ws_ yJ5_value cJ5_value 1 (some (.array .byte))) { frames := 0, cells := 0, slots := 0, locals := 0 } (gPc z H0 [.ref a]) (gPr H0 (fun r => r = b)) 0 0 gno := by
  refine g_start (by decide +kernel) (Nat.le_of_ble_eq_true rfl) ?_
  intro p e s m below meth c ls hx hb hr hlocks hml hown hname hts hwm hl
  have hown : s.vm.findClass "java/lang/String" = some m.cls := hown
  have hal : z.vm.Alike s.vm := hwm.alike
  have hCF : CallFix p m c cJ5_value 1 s [.ref a].toArray lw_all "java/lang/String" := ⟨hx, hb, hml, hown, hts⟩
  have hl : lv_has ls 1 [(0, .ref a)] := hl
  obtain ⟨h, hz, hO, hB, hT⟩ := hstr
  refine lv_aload_n hx hb dJ5_value_0 rfl (lv_at hl 0 rfl) ?_
  refine gw_get (C := RJ5) (T := TJ5) (N := 4) (v := .ref b) hx hb hts in_J5 hown hal hO 0 (by decide) (hts _ q523) (fun _ h9 => h9) rfl dJ5_value_1 ?_
  refine g_aretP hx hb hr hlocks (Or.inr ⟨_, rfl⟩) ?_ dJ5_value_4
  rfl
set_option maxHeartbeats 1000000 in
theorem m_length (l : Launch) (z : State) (H0 : Heap) (a : Nat)  (w : Bool) (b : Nat) (T : List Nat) {A : Nat → Prop} (k : Nat → Nat) (fv : Nat → Value) (hstr : gS z w H0 a b T) (hs : sS z k fv A H0) : Met l yJ5_length (ws_ yJ5_length cJ5_length 1 (some .int)) { frames := 1, cells := 0, slots := 0, locals := 20 } (gPc z H0 [.ref a]) (gPi H0 (fun r => r = nI T.length)) 0 0 gno := by
  refine g_start (by decide +kernel) (Nat.le_of_ble_eq_true rfl) ?_
  intro p e s m below meth c ls hx hb hr hlocks hml hown hname hts hwm hl
  have hown : s.vm.findClass "java/lang/String" = some m.cls := hown
  have hal : z.vm.Alike s.vm := hwm.alike
  have hCF : CallFix p m c cJ5_length 1 s [.ref a].toArray lw_all "java/lang/String" := ⟨hx, hb, hml, hown, hts⟩
  have hl : lv_has ls 1 [(0, .ref a)] := hl
  obtain ⟨h, hz, hO, hB, hT⟩ := hstr
  refine lv_aload_n hx hb dJ5_length_0 rfl (lv_at hl 0 rfl) ?_
  refine gw_get (C := RJ5) (T := TJ5) (N := 4) (v := .ref b) hx hb hts in_J5 hown hal hO 0 (by decide) (hts _ q523) (fun _ h9 => h9) rfl dJ5_length_1 ?_
  refine gw_len hx hb hal hB dJ5_length_4 ?_
  refine lv_aload_n hx hb dJ5_length_5 rfl (lv_at hl 0 rfl) ?_
  refine gcV0_iP hCF hwm hl.1 (m_coder l z H0 a w b T k fv ⟨h, hz, hO, hB, hT⟩ hs ) (lw_V q222 q223 q224 q64 q225) ydv_J5_coder (hO.recv hal) ⟨Nat.le_of_ble_eq_true rfl, Nat.le_of_ble_eq_true rfl⟩ ⟨Nat.le_of_ble_eq_true rfl, Nat.le_of_ble_eq_true rfl⟩ (Nat.le_of_ble_eq_true rfl) dJ5_length_6 (fun r_1 hp => ?_)
  subst hp
  refine lv_ishr hx hb dJ5_length_9 ?_
  refine g_iretP hx hb hr hlocks ?_ dJ5_length_10
  exact shr0 hT.1
set_option maxHeartbeats 1000000 in
theorem m_charAtL (l : Launch) (z : State) (H0 : Heap) (b : Nat) (i : Nat) (w : Bool) (T : List Nat) {A : Nat → Prop} (k : Nat → Nat) (fv : Nat → Value) (hi : i < T.length) (hB : gI z w .byte H0 b T.length (bof T)) (hT : tx T) (hs : sS z k fv A H0) : Met l yJ15_charAt (ws_ yJ15_charAt cJ15_charAt 2 (some .char)) { frames := 2, cells := 0, slots := 0, locals := 43 } (gPc z H0 [.ref b, .int (nI i)]) (gPi H0 (fun r => r = nI (T.getD i 0))) 0 0 gno := by
  refine g_start (by decide +kernel) (Nat.le_of_ble_eq_true rfl) ?_
  intro p e s m below meth c ls hx hb hr hlocks hml hown hname hts hwm hl
  have hown : s.vm.findClass "java/lang/StringLatin1" = some m.cls := hown
  have hal : z.vm.Alike s.vm := hwm.alike
  have hCF : CallFix p m c cJ15_charAt 2 s [.ref b, .int (nI i)].toArray lw_all "java/lang/StringLatin1" := ⟨hx, hb, hml, hown, hts⟩
  have hl : lv_has ls 2 [(0, .ref b), (1, .int (nI i))] := hl
  have hT1 := hT.1
  refine lv_iload_n hx hb dJ15_charAt_0 rfl (lv_at hl 1 rfl) ?_
  refine lv_aload_n hx hb dJ15_charAt_1 rfl (lv_at hl 0 rfl) ?_
  refine gw_len hx hb hal hB dJ15_charAt_2 ?_
  refine gcS2_vP hCF hwm hl.1 (m_checkIndexS l z H0  i T.length k fv hi hT.1 hs ) (lw_S q549 q550 q64 q551) yd_J5_checkIndex ⟨Nat.le_of_ble_eq_true rfl, Nat.le_of_ble_eq_true rfl⟩ ⟨Nat.le_of_ble_eq_true rfl, Nat.le_of_ble_eq_true rfl⟩ (Nat.le_of_ble_eq_true rfl) dJ15_charAt_3 (fun hp => ?_)
  clear hp
  refine lv_aload_n hx hb dJ15_charAt_6 rfl (lv_at hl 0 rfl) ?_
  refine lv_iload_n hx hb dJ15_charAt_7 rfl (lv_at hl 1 rfl) ?_
  refine gw_bald hx hb hal hB i (rfl) (by omega) (by omega) dJ15_charAt_8 ?_
  refine lv_sipush (v := 255) hx hb dJ15_charAt_9 (by decide) ?_
  refine lv_iand hx hb dJ15_charAt_12 ?_
  refine lv_i2c hx hb dJ15_charAt_13 rfl ?_
  refine g_topi (v := (nI (T.getD i 0))) (ch8 (tx_at hT i)) ?_
  refine g_zretP hx hb hr hlocks (narC (tx_at hT i)) ?_ dJ15_charAt_14
  rfl
set_option maxHeartbeats 1000000 in
theorem m_charAt (l : Launch) (z : State) (H0 : Heap) (a : Nat) (i : Nat) (w : Bool) (b : Nat) (T : List Nat) {A : Nat → Prop} (k : Nat → Nat) (fv : Nat → Value) (hi : i < T.length) (hstr : gS z w H0 a b T) (hs : sS z k fv A H0) : Met l yJ5_charAt (ws_ yJ5_charAt cJ5_charAt 2 (some .char)) { frames := 3, cells := 0, slots := 0, locals := 64 } (gPc z H0 [.ref a, .int (nI i)]) (gPi H0 (fun r => r = nI (T.getD i 0))) 0 0 gno := by
  refine g_start (by decide +kernel) (Nat.le_of_ble_eq_true rfl) ?_
  intro p e s m below meth c ls hx hb hr hlocks hml hown hname hts hwm hl
  have hown : s.vm.findClass "java/lang/String" = some m.cls := hown
  have hal : z.vm.Alike s.vm := hwm.alike
  have hCF : CallFix p m c cJ5_charAt 2 s [.ref a, .int (nI i)].toArray lw_all "java/lang/String" := ⟨hx, hb, hml, hown, hts⟩
  have hl : lv_has ls 2 [(0, .ref a), (1, .int (nI i))] := hl
  obtain ⟨h, hz, hO, hB, hT⟩ := hstr
  refine lv_aload_n hx hb dJ5_charAt_0 rfl (lv_at hl 0 rfl) ?_
  refine gcV0_iP hCF hwm hl.1 (m_isLatin1 l z H0 a w b T k fv ⟨h, hz, hO, hB, hT⟩ hs ) (lw_V q542 q543 q544 q64 q545) ydv_J5_isLatin1 (hO.recv hal) ⟨Nat.le_of_ble_eq_true rfl, Nat.le_of_ble_eq_true rfl⟩ ⟨Nat.le_of_ble_eq_true rfl, Nat.le_of_ble_eq_true rfl⟩ (Nat.le_of_ble_eq_true rfl) dJ5_charAt_1 (fun r_1 hp => ?_)
  subst hp
  refine lv_if_eq (tgt := 16) hx hb dJ5_charAt_4 (by decide) (fun c_4 => absurd c_4 (by decide)) (fun c_4 => ?_)
  refine lv_aload_n hx hb dJ5_charAt_7 rfl (lv_at hl 0 rfl) ?_
  refine gw_get (C := RJ5) (T := TJ5) (N := 4) (v := .ref b) hx hb hts in_J5 hown hal hO 0 (by decide) (hts _ q523) (fun _ h9 => h9) rfl dJ5_charAt_8 ?_
  refine lv_iload_n hx hb dJ5_charAt_11 rfl (lv_at hl 1 rfl) ?_
  refine gcS2_iP hCF hwm hl.1 (m_charAtL l z H0 b i w T k fv hi hB hT hs ) (lw_S q546 q547 q76 q548) yd_J15_charAt ⟨Nat.le_of_ble_eq_true rfl, Nat.le_of_ble_eq_true rfl⟩ ⟨Nat.le_of_ble_eq_true rfl, Nat.le_of_ble_eq_true rfl⟩ (Nat.le_of_ble_eq_true rfl) dJ5_charAt_12 (fun r_2 hp => ?_)
  subst hp
  refine g_zretP hx hb hr hlocks (narC (tx_at hT i)) ?_ dJ5_charAt_15
  rfl
