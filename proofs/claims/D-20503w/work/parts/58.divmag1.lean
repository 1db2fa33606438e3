/-! ## walks (written by tools) -/
set_option maxRecDepth 100000
theorem ydv_J24_rightShift : yJ24_rightShift.cls = "java/math/MutableBigInteger" ∧ yJ24_rightShift.cls ≠ "java/lang/invoke/MethodHandle" ∧ yJ24_rightShift.cls ≠ "java/lang/invoke/VarHandle" ∧ (parseMethodDescriptor yJ24_rightShift.desc).map (fun d => d.parameters.length) = some 1 := by decide +kernel
set_option maxHeartbeats 8000000 in
theorem m_divMag1 (l : Launch) (z : State) (H0 : Heap) (a : Nat) (b : Nat) (qo : Nat) (va vb vq n m0 na nb : Nat) (wa wb xa xb : Bool) (d ee : Nat → Nat) (hzw : zW z) (hm2 : 2 ≤ m0) (hmn : m0 ≤ n) (hn9 : n < 1000) (hna : n ≤ na) (hna9 : na < 100000) (hnb : m0 ≤ nb) (hnb9 : nb < 100000) (hab : a ≠ qo) (hbb : b ≠ qo) (haq : vq ≠ a) (hbq : vq ≠ b) (hqq : vq ≠ qo) (hvq : vq ≠ va) (hvq2 : vq ≠ vb) (hva : va ≠ qo) (hvb : vb ≠ qo) (hd0 : d 0 ≠ 0) (he0 : ee 0 ≠ 0) (hsm : ee 0 < 2147483648) (hd : ∀ i, d i < 4294967296) (he : ∀ i, ee i < 4294967296) (hO : gO z wa RJ24 TJ24 3 H0 a [.ref va, .int (nI n), .int 0]) (hA : gI z xa .int H0 va na (dI d)) (hOb : gO z wb RJ24 TJ24 3 H0 b [.ref vb, .int (nI m0), .int 0]) (hB : gI z xb .int H0 vb nb (dI ee)) (hQo : gO z true RJ24 TJ24 3 H0 qo [.ref vq, .int 0, .int 0]) (hQa : gI z true .int H0 vq 1 (dI (fun _ => 0))) : Met l yJ24_divideMagnitude (ws_ yJ24_divideMagnitude cJ24_divideMagnitude 28 (some (.object "java/math/MutableBigInteger"))) { frames := 3, cells := 4, slots := (2 * n + 7), locals := 65 } (gPc z H0 [.ref a, .ref b, .ref qo, .int 1]) (gRr (fun q => q = qo ∨ q = vq ∨ H0.size ≤ q) H0 (fun r H1 => H0.size ≤ r ∧ ∃ v1 v2, v1 ≠ v2 ∧ (v1 = vq ∨ H0.size ≤ v1) ∧ v1 ≠ qo ∧ H0.size ≤ v2 ∧ v1 ≠ r ∧ v2 ≠ r ∧ mV z H1 qo v1 (n + 2) (seg d 0 n / seg ee 0 m0) ∧ mV z H1 r v2 (n + 2) (seg d 0 n % seg ee 0 m0))) 4 (2 * n + 7) (fun q => q = qo ∨ q = vq ∨ H0.size ≤ q) := by
  refine g_start (by decide +kernel) (Nat.le_of_ble_eq_true rfl) ?_
  intro p e s m below meth c ls hx hb hr hlocks hml hown hname hts hwm hl
  have hown : s.vm.findClass "java/math/MutableBigInteger" = some m.cls := hown
  have hal : z.vm.Alike s.vm := hwm.alike
  have hCF : CallFix p m c cJ24_divideMagnitude 28 s [.ref a, .ref b, .ref qo, .int 1].toArray lw_all "java/math/MutableBigInteger" := ⟨hx, hb, hml, hown, hts⟩
  have hl : lv_has ls 28 [(0, .ref a), (1, .ref b), (2, .ref qo), (3, .int 1)] := hl
  have hS : va_S (fun q => q = qo ∨ q = vq ∨ H0.size ≤ q) H0 H0 [] := va_S.rf
  have lt_a := hO.lt
  have lt_va := hA.lt
  have lt_b := hOb.lt
  have lt_vb := hB.lt
  have lt_qo := hQo.lt
  have lt_vq := hQa.lt
  have cutT : ∀ (ro vr vq1 nl lim sh : Nat) (g q1 : Nat → Nat), (H0.size ≤ ro ∧ H0.size ≤ vr ∧ vr ≠ ro ∧ (vq1 = vq ∨ H0.size ≤ vq1) ∧ vq1 ≠ vr ∧ vq1 ≠ ro ∧ vq1 ≠ qo) → (0 < sh ∧ sh < 32) → (nl ≤ n + 1) → (lim ≤ n + 1) → (∀ i, g i < 4294967296) → (∀ i, q1 i < 4294967296) → (g 0 = 0) → (seg g 0 (nl + 1) = (seg d 0 n % seg ee 0 m0) * 2 ^ sh) → (seg q1 0 lim = seg d 0 n / seg ee 0 m0) → ∀ (H_1 : Heap) (locs : List Loc), va_S (fun q => q = qo ∨ q = vq ∨ H0.size ≤ q) H0 H_1 locs → gO z true RJ24 TJ24 3 H_1 ro [.ref vr, .int (nI (nl + 1)), .int 0] → gI z true .int H_1 vr (nl + 1) (dI g) → gO z true RJ24 TJ24 3 H_1 qo [.ref vq1, .int (nI lim), .int 0] → gI z true .int H_1 vq1 lim (dI q1) → ∀ (ls : Array Slot), lv_has ls 28 [(0, .ref a), (1, .ref b), (2, .ref qo), (3, .int 1), (4, .int (nI sh)), (5, .int (nI m0)), (7, .ref ro)] → W p l e { frames := 3, cells := 4, slots := (2 * n + 7), locals := 65 } s m [.ref a, .ref b, .ref qo, .int 1].toArray below meth c H_1 locs 4 (2 * n + 7) (MQ below (gRr (fun q => q = qo ∨ q = vq ∨ H0.size ≤ q) H0 (fun r H1 => H0.size ≤ r ∧ ∃ v1 v2, v1 ≠ v2 ∧ (v1 = vq ∨ H0.size ≤ v1) ∧ v1 ≠ qo ∧ H0.size ≤ v2 ∧ v1 ≠ r ∧ v2 ≠ r ∧ mV z H1 qo v1 (n + 2) (seg d 0 n / seg ee 0 m0) ∧ mV z H1 r v2 (n + 2) (seg d 0 n % seg ee 0 m0))) [.ref a, .ref b, .ref qo, .int 1].toArray s 4 (2 * n + 7) (fun q => q = qo ∨ q = vq ∨ H0.size ≤ q)) (F0 m 1261 ls []) := by
    intro ro vr vq1 nl lim sh g q1 hk hsh hnl hlim hg hq1b hg0 hgR hQv H_1 locs hS hRo hRa hQo hQa ls hl
    refine lv_iload_n hx hb dJ24_divideMagnitude_1261 rfl (lv_at hl 3 rfl) ?_
    refine lv_if_eq (tgt := 1282) hx hb dJ24_divideMagnitude_1262 (by decide) (fun c_1262 => absurd c_1262 (by decide)) (fun c_1262 => ?_)
    refine lv_iload hx hb dJ24_divideMagnitude_1265 (lv_at hl 4 rfl) ?_
    refine lv_if_le (tgt := 1277) hx hb dJ24_divideMagnitude_1267 (by decide) (fun c_1267 => False.elim (by
      have c_1267 := (ai_le (a := sh) (b := 0) (rfl) (rfl) (by omega) (by omega)).mp c_1267
      omega)) (fun c_1267 => ?_)
    have c_1267 := mt (ai_le (a := sh) (b := 0) (rfl) (rfl) (by omega) (by omega)).mpr c_1267
    refine lv_aload hx hb dJ24_divideMagnitude_1270 (lv_at hl 6 rfl) ?_
    refine lv_iload hx hb dJ24_divideMagnitude_1272 (lv_at hl 4 rfl) ?_
    have hsz := hS.1
    refine gcV1_v hCF hwm hl.1 (m_mShr l z H_1 ro vr (nl + 1) (nl + 1) sh (seg d 0 n % seg ee 0 m0) g (by omega) (by omega) (by omega) (by omega) (Nat.le_refl _) (by omega) hg0 hgR hg hRo hRa ) (lw_V q1053 q1054 q1055 q85 q1056) ydv_J24_rightShift (hRo.recv hal) hS (fun q h => by have hsz := hS.1; (try dsimp only [gfr] at h ⊢) <;> omega) ⟨Nat.le_of_ble_eq_true rfl, Nat.le_of_ble_eq_true rfl⟩ ⟨by first | omega | (dsimp only; omega), by first | omega | (dsimp only; omega)⟩ (Nat.le_of_ble_eq_true rfl) dJ24_divideMagnitude_1274 (fun H_2 locs hp hex hS => ?_)
    have sz_H_2 : H_1.size ≤ H_2.size := hex.1
    have hQo := hQo.ex hex (by intro h; (try dsimp only [gfr] at h) <;> omega)
    have hQa := hQa.ex hex (by intro h; (try dsimp only [gfr] at h) <;> omega)
    clear hRo hRa
    obtain ⟨g5, hg5, hg6, hRo, hRa⟩ := hp
    rw [Nat.add_sub_cancel] at hg6 hRo
    have lt_ro := hRo.lt
    have lt_vr := hRa.lt
    refine lv_aload hx hb dJ24_divideMagnitude_1277 (lv_at hl 6 rfl) ?_
    have hsz := hS.1
    refine gcV0_v hCF hwm hl.1 (m_norm l z H_2 ro vr nl 0 (nl + 1) true g5 (by omega) (by omega) (by omega) hg5 hRo hRa ) (lw_V q1040 q1041 q1042 q85 q1043) ydv_J24_normalize (hRo.recv hal) hS (fun q h => by have hsz := hS.1; (try dsimp only [gfr] at h ⊢) <;> omega) ⟨Nat.le_of_ble_eq_true rfl, Nat.le_of_ble_eq_true rfl⟩ ⟨by first | omega | (dsimp only; omega), by first | omega | (dsimp only; omega)⟩ (Nat.le_of_ble_eq_true rfl) dJ24_divideMagnitude_1279 (fun H_4 locs hp hex hS => ?_)
    have sz_H_4 : H_2.size ≤ H_4.size := hex.1
    have hQo := hQo.ex hex (by intro h; (try dsimp only [gfr] at h) <;> omega)
    have hQa := hQa.ex hex (by intro h; (try dsimp only [gfr] at h) <;> omega)
    have hRa := hRa.ex hex (by intro h; (try dsimp only [gfr] at h) <;> omega)
    clear hRo
    obtain ⟨n2, o2, hn2, ho2, hs2, hz2, hRo⟩ := hp
    have lt_ro := hRo.lt
    refine lv_aload_n hx hb dJ24_divideMagnitude_1282 rfl (lv_at hl 2 rfl) ?_
    have hsz := hS.1
    refine gcV0_v hCF hwm hl.1 (m_norm l z H_4 qo vq1 lim 0 lim true q1 (by omega) (by omega) (by omega) hq1b hQo hQa ) (lw_V q1040 q1041 q1042 q85 q1043) ydv_J24_normalize (hQo.recv hal) hS (fun q h => by have hsz := hS.1; (try dsimp only [gfr] at h ⊢) <;> omega) ⟨Nat.le_of_ble_eq_true rfl, Nat.le_of_ble_eq_true rfl⟩ ⟨by first | omega | (dsimp only; omega), by first | omega | (dsimp only; omega)⟩ (Nat.le_of_ble_eq_true rfl) dJ24_divideMagnitude_1283 (fun H_6 locs hp hex hS => ?_)
    have sz_H_6 : H_4.size ≤ H_6.size := hex.1
    have hQa := hQa.ex hex (by intro h; (try dsimp only [gfr] at h) <;> omega)
    have hRa := hRa.ex hex (by intro h; (try dsimp only [gfr] at h) <;> omega)
    have hRo := hRo.ex hex (by intro h; (try dsimp only [gfr] at h) <;> omega)
    clear hQo
    obtain ⟨n1, o1, hn1, ho1, hs1, hz1, hQo⟩ := hp
    have lt_qo := hQo.lt
    refine lv_iload_n hx hb dJ24_divideMagnitude_1286 rfl (lv_at hl 3 rfl) ?_
    refine lv_if_eq (tgt := 1295) hx hb dJ24_divideMagnitude_1287 (by decide) (fun c_1287 => absurd c_1287 (by decide)) (fun c_1287 => ?_)
    refine lv_aload hx hb dJ24_divideMagnitude_1290 (lv_at hl 6 rfl) ?_
    refine lv_goto (tgt := 1296) hx hb dJ24_divideMagnitude_1292 (by decide) ?_
    refine g_aret hx hb hr hlocks (Or.inl ⟨_, rfl⟩) hS (by first | omega | (dsimp only; omega)) (by first | omega | (dsimp only; omega)) ?_ dJ24_divideMagnitude_1296
    exact ⟨by omega, vq1, vr, by omega, by omega, by omega, by omega, by omega, by omega, ⟨n1, o1, lim, q1, hq1b, by omega, by omega, hs1.trans hQv, hz1, hQo, hQa⟩, n2, o2, nl + 1, g5, hg5, by omega, by omega, hs2.trans hg6, hz2, hRo, hRa⟩
  have cutL : ∀ (vd ro vr vq1 nl sh j : Nat) (e1 g q1 : Nat → Nat), (∀ i, e1 i < 4294967296) → (2147483648 ≤ e1 0) → (seg e1 0 m0 = seg ee 0 m0 * 2 ^ sh) → (sh < 32) → (n ≤ nl ∧ nl ≤ n + 1) → (adF H0.size vq qo vd ro vr vq1) → (nl + 1 = (j + 1) + m0) → (j < (j + 1)) → (∀ i, g i < 4294967296) → (∀ i, q1 i < 4294967296) → (seg g j m0 < seg e1 0 m0) → (seg d 0 n * 2 ^ sh = seg q1 0 j * 4294967296 ^ ((j + 1) - j) * seg e1 0 m0 + seg g j (m0 + ((j + 1) - j))) → (∀ i, i < j → g i = 0) → (∀ i, j ≤ i → i < (j + 1) → q1 i = 0) → (0 < sh ∧ sh < 32) → ∀ (H_8 : Heap) (locs : List Loc), va_S (fun q => q = qo ∨ q = vq ∨ H0.size ≤ q) H0 H_8 locs → gO z wa RJ24 TJ24 3 H_8 a [.ref va, .int (nI n), .int 0] → gI z true .int H_8 vd m0 (dI e1) → gO z true RJ24 TJ24 3 H_8 ro [.ref vr, .int (nI (nl + 1)), .int 0] → gI z true .int H_8 vr (nl + 1) (dI g) → gO z true RJ24 TJ24 3 H_8 qo [.ref vq1, .int (nI (j + 1)), .int 0] → gI z true .int H_8 vq1 (j + 1) (dI q1) → ∀ (ls : Array Slot), lv_has ls 28 [(0, .ref a), (1, .ref b), (2, .ref qo), (3, .int 1), (4, .int (nI sh)), (5, .int (nI m0)), (6, .ref vd), (7, .ref ro), (9, .int (nI (j + 1))), (10, .ref vq1), (11, .int (nI (e1 0))), (12, .long (lN (e1 0))), (14, .int (nI (e1 1)))] → W p l e { frames := 3, cells := 4, slots := (2 * n + 7), locals := 65 } s m [.ref a, .ref b, .ref qo, .int 1].toArray below meth c H_8 locs 4 (2 * n + 7) (MQ below (gRr (fun q => q = qo ∨ q = vq ∨ H0.size ≤ q) H0 (fun r H1 => H0.size ≤ r ∧ ∃ v1 v2, v1 ≠ v2 ∧ (v1 = vq ∨ H0.size ≤ v1) ∧ v1 ≠ qo ∧ H0.size ≤ v2 ∧ v1 ≠ r ∧ v2 ≠ r ∧ mV z H1 qo v1 (n + 2) (seg d 0 n / seg ee 0 m0) ∧ mV z H1 r v2 (n + 2) (seg d 0 n % seg ee 0 m0))) [.ref a, .ref b, .ref qo, .int 1].toArray s 4 (2 * n + 7) (fun q => q = qo ∨ q = vq ∨ H0.size ≤ q)) (F0 m 828 ls []) := by
    intro vd ro vr vq1 nl sh j e1 g q1 he1 hD2 hDv hsh hnl hk hlim hj hg hq1b hi1 hi2 hz hq0 hsh0 H_8 locs hS hO hV hRo hRa hQo hQa ls hl
    have hDs := kn_split (d := e1) (o := 0) hm2
    rw [Nat.zero_add, Nat.zero_add] at hDs
    have hXs := kn_split3 (d := g) (o := j) hm2
    have hd0 := seg_lt he1 2 (m0 - 2)
    have hx0 := seg_lt hg (j + 3) (m0 - 2)
    have hDpos : 0 < seg e1 0 m0 := seg_pos (by omega) (by omega)
    have hXB := kn_xb hg hi1
    have hnh := kn_nh he1 (by omega) hi1
    have he10 := he1 0
    have he11 := he1 1
    have hg0 := hg j
    have hg1 := hg (j + 1)
    have hg2 := hg (j + 2)
    have cutF : ∀ (qh : Nat), (qh < 4294967296) → (seg g j (m0 + 1) / seg e1 0 m0 ≤ qh) → (qh * (e1 0 * 4294967296 + e1 1) ≤ ((g j * 4294967296 + g (j + 1)) * 4294967296 + g (j + 2))) → ∀ (ls : Array Slot), lv_has ls 28 [(0, .ref a), (1, .ref b), (2, .ref qo), (3, .int 1), (4, .int (nI sh)), (5, .int (nI m0)), (6, .ref vd), (7, .ref ro), (9, .int (nI (j + 1))), (10, .ref vq1), (11, .int (nI (e1 0))), (12, .long (lN (e1 0))), (14, .int (nI (e1 1))), (15, .int (nI qh)), (18, .int (nI (g j))), (19, .int (iI (((g j) : Nat) + (-2147483648))))] → W p l e { frames := 3, cells := 4, slots := (2 * n + 7), locals := 65 } s m [.ref a, .ref b, .ref qo, .int 1].toArray below meth c H_8 locs 4 (2 * n + 7) (MQ below (gRr (fun q => q = qo ∨ q = vq ∨ H0.size ≤ q) H0 (fun r H1 => H0.size ≤ r ∧ ∃ v1 v2, v1 ≠ v2 ∧ (v1 = vq ∨ H0.size ≤ v1) ∧ v1 ≠ qo ∧ H0.size ≤ v2 ∧ v1 ≠ r ∧ v2 ≠ r ∧ mV z H1 qo v1 (n + 2) (seg d 0 n / seg ee 0 m0) ∧ mV z H1 r v2 (n + 2) (seg d 0 n % seg ee 0 m0))) [.ref a, .ref b, .ref qo, .int 1].toArray s 4 (2 * n + 7) (fun q => q = qo ∨ q = vq ∨ H0.size ≤ q)) (F0 m 1133 ls []) := by
      intro qh hf1 hf4 hf8 ls hl
      have hfin := kn_fin hDs hXs hd0 hf8 (by omega) hDpos
      have hXl : seg g j (m0 + 1) = g j * 4294967296 ^ m0 + seg g (j + 1) m0 := seg_l g j m0
      have hDlt : seg e1 0 m0 < 4294967296 ^ m0 := seg_lt he1 0 m0
      have hgz : seg (dup g j (0 % 4294967296)) (j + 1) m0 = seg g (j + 1) m0 := seg_cg fun i h1 h2 => dup_n (by omega)
      have hgzb : ∀ ix, dup g j (0 % 4294967296) ix < 4294967296 := dup_lt hg (by decide)
      refine lv_aload hx hb dJ24_divideMagnitude_1133 (lv_at hl 7 rfl) ?_
      refine gw_get (C := RJ24) (T := TJ24) (N := 3) (v := .ref vr) hx hb hts in_J24 hown hal hRo 0 (by decide) (hts _ q979) (fun _ h9 => h9) rfl dJ24_divideMagnitude_1135 ?_
      refine lv_iload hx hb dJ24_divideMagnitude_1138 (lv_at hl 8 rfl) ?_
      refine lv_iconst (v := 1) hx hb dJ24_divideMagnitude_1140 (by decide) ?_
      refine lv_isub hx hb dJ24_divideMagnitude_1141 ?_
      refine g_topi (v := nI j) (ai_sub (a := (j + 1)) (b := 1) (rfl) (rfl) (by omega)) ?_
      refine lv_aload hx hb dJ24_divideMagnitude_1142 (lv_at hl 7 rfl) ?_
      refine gw_get (C := RJ24) (T := TJ24) (N := 3) (v := .int 0) hx hb hts in_J24 hown hal hRo 2 (by decide) (hts _ q981) (fun _ h9 => h9) rfl dJ24_divideMagnitude_1144 ?_
      refine lv_iadd hx hb dJ24_divideMagnitude_1147 ?_
      refine g_topi (v := nI j) (ai_add (a := j) (b := 0) (rfl) (rfl)) ?_
      refine lv_iconst (v := 0) hx hb dJ24_divideMagnitude_1148 (by decide) ?_
      refine gw_iast (f := (dI g)) hx hb hal hRa hS (by have q9 := hk; unfold adF at q9; have hsz := hS.1; (try dsimp only) <;> omega) j (rfl) (by omega) (by omega) dJ24_divideMagnitude_1149 (fun H_9 locs h_new hch hS => ?_)
      have hO := hO.ch hch (by have q9 := hk; unfold adF at q9; omega)
      have hV := hV.ch hch (by have q9 := hk; unfold adF at q9; omega)
      have hRo := hRo.ch hch (by have q9 := hk; unfold adF at q9; omega)
      have hQo := hQo.ch hch (by have q9 := hk; unfold adF at q9; omega)
      have hQa := hQa.ch hch (by have q9 := hk; unfold adF at q9; omega)
      have sz_H_9 := hch.1
      clear hch
      have hRa : gI z true .int H_9 vr (nl + 1) (upd (dI g) j 0) := h_new
      replace hRa : gI z true .int H_9 vr (nl + 1) (dI (dup g j (0 % 4294967296))) := by
        have q := hRa
        rw [show (0 : Int32) = nI 0 from rfl] at q
        rw [dI_put] at q
        exact q
      have bd_10 : ∀ ix, (dup g j (0 % 4294967296)) ix < 4294967296 := dup_lt hg (Nat.mod_lt _ (by decide))
      refine lv_iload_n hx hb dJ24_divideMagnitude_1150 rfl (lv_at hl 3 rfl) ?_
      refine lv_if_eq (tgt := 1184) hx hb dJ24_divideMagnitude_1151 (by decide) (fun c_1151 => absurd c_1151 (by decide)) (fun c_1151 => ?_)
      refine lv_aload_n hx hb dJ24_divideMagnitude_1154 rfl (lv_at hl 0 rfl) ?_
      refine lv_aload hx hb dJ24_divideMagnitude_1155 (lv_at hl 7 rfl) ?_
      refine gw_get (C := RJ24) (T := TJ24) (N := 3) (v := .ref vr) hx hb hts in_J24 hown hal hRo 0 (by decide) (hts _ q979) (fun _ h9 => h9) rfl dJ24_divideMagnitude_1157 ?_
      refine lv_aload hx hb dJ24_divideMagnitude_1160 (lv_at hl 6 rfl) ?_
      refine lv_iload hx hb dJ24_divideMagnitude_1162 (lv_at hl 13 rfl) ?_
      refine lv_iload hx hb dJ24_divideMagnitude_1164 (lv_at hl 5 rfl) ?_
      refine lv_iload hx hb dJ24_divideMagnitude_1166 (lv_at hl 8 rfl) ?_
      refine lv_iconst (v := 1) hx hb dJ24_divideMagnitude_1168 (by decide) ?_
      refine lv_isub hx hb dJ24_divideMagnitude_1169 ?_
      refine g_topi (v := nI j) (ai_sub (a := (j + 1)) (b := 1) (rfl) (rfl) (by omega)) ?_
      refine lv_aload hx hb dJ24_divideMagnitude_1170 (lv_at hl 7 rfl) ?_
      refine gw_get (C := RJ24) (T := TJ24) (N := 3) (v := .int 0) hx hb hts in_J24 hown hal hRo 2 (by decide) (hts _ q981) (fun _ h9 => h9) rfl dJ24_divideMagnitude_1172 ?_
      refine lv_iadd hx hb dJ24_divideMagnitude_1175 ?_
      refine g_topi (v := nI j) (ai_add (a := j) (b := 0) (rfl) (rfl)) ?_
      have hsz := hS.1
      refine gcV5_i hCF hwm hl.1 (m_mulsub l z H_9 a vr vd (nl + 1) j m0 qh m0 true wa (dup g j (0 % 4294967296)) e1 va (nI n) 0 hk.vv (by omega) (by omega) (by omega) (Nat.le_refl _) hf1 hgzb he1 hRa hV hO ) (lw_V q1092 q1094 qs8 q85 q1095) ydv_J24_mulsub (hO.recv hal) hS (fun q h => by have q9 := hk; unfold adF at q9; have hsz := hS.1; (try dsimp only at h ⊢) <;> omega) ⟨Nat.le_of_ble_eq_true rfl, Nat.le_of_ble_eq_true rfl⟩ ⟨by first | omega | (dsimp only; omega), by first | omega | (dsimp only; omega)⟩ (Nat.le_of_ble_eq_true rfl) dJ24_divideMagnitude_1176 (fun rk H_11 locs hp hex hS => ?_)
      have sz_H_11 : H_9.size ≤ H_11.size := hex.1
      have hO := hO.ex hex (by intro h; have q9 := hk; unfold adF at q9; (try dsimp only at h) <;> omega)
      have hV := hV.ex hex (by intro h; have q9 := hk; unfold adF at q9; (try dsimp only at h) <;> omega)
      have hRo := hRo.ex hex (by intro h; have q9 := hk; unfold adF at q9; (try dsimp only at h) <;> omega)
      have hQo := hQo.ex hex (by intro h; have q9 := hk; unfold adF at q9; (try dsimp only at h) <;> omega)
      have hQa := hQa.ex hex (by intro h; have q9 := hk; unfold adF at q9; (try dsimp only at h) <;> omega)
      clear hRa
      obtain ⟨kk, gg, hkk0, hkk, hgg, hgo, hms, hRa⟩ := hp
      subst hkk0
      rw [hgz] at hms
      have hks := kn_ms hXl hms (seg_lt hgg _ _) hDlt hDpos hf4 hfin
      have lt_vr := hRa.lt
      refine lv_istore hx hb dJ24_divideMagnitude_1179 hl (by decide) rfl (fun ls hl => ?_)
      have hl : lv_has ls 28 [(21, .int (nI kk)), (0, .ref a), (1, .ref b), (2, .ref qo), (3, .int 1), (4, .int (nI sh)), (5, .int (nI m0)), (6, .ref vd), (7, .ref ro), (9, .int (nI (j + 1))), (10, .ref vq1), (11, .int (nI (e1 0))), (12, .long (lN (e1 0))), (14, .int (nI (e1 1))), (15, .int (nI qh)), (18, .int (nI (g j))), (19, .int (iI (((g j) : Nat) + (-2147483648))))] := hl
      refine lv_goto (tgt := 1211) hx hb dJ24_divideMagnitude_1181 (by decide) ?_
      refine lv_iload hx hb dJ24_divideMagnitude_1211 (lv_at hl 0 rfl) ?_
      refine lv_ldc (v := -2147483648) hx hb hown (hts _ q1012) dJ24_divideMagnitude_1213 ?_
      refine lv_iadd hx hb dJ24_divideMagnitude_1215 ?_
      refine g_topi (v := iI ((kk : Nat) + (-2147483648))) (ai_addI (a := (kk : Nat)) (b := (-2147483648)) (nI_iI _) (by decide)) ?_
      refine lv_iload hx hb dJ24_divideMagnitude_1216 (lv_at hl 16 rfl) ?_
      refine lv_icmp_le (tgt := 1252) hx hb dJ24_divideMagnitude_1218 (by decide) (fun c_1218 => ?_) (fun c_1218 => ?_)
      · skip
        have c_1218 := (ai_leI (a := ((kk : Nat) + (-2147483648))) (b := (((g j) : Nat) + (-2147483648))) (rfl) (rfl) (by omega) (by omega) (by omega) (by omega)).mp c_1218
        have hks1 := hks.1 (by omega)
        have hqf : qh = seg g j (m0 + 1) / seg e1 0 m0 := hks1.1
        refine lv_aload hx hb dJ24_divideMagnitude_1252 (lv_at hl 10 rfl) ?_
        refine lv_iload hx hb dJ24_divideMagnitude_1254 (lv_at hl 9 rfl) ?_
        refine lv_iconst (v := 1) hx hb dJ24_divideMagnitude_1256 (by decide) ?_
        refine lv_isub hx hb dJ24_divideMagnitude_1257 ?_
        refine g_topi (v := nI j) (ai_sub (a := (j + 1)) (b := 1) (rfl) (rfl) (by omega)) ?_
        refine lv_iload hx hb dJ24_divideMagnitude_1258 (lv_at hl 14 rfl) ?_
        refine gw_iast (f := (dI q1)) hx hb hal hQa hS (by have q9 := hk; unfold adF at q9; have hsz := hS.1; (try dsimp only) <;> omega) j (rfl) (by omega) (by omega) dJ24_divideMagnitude_1260 (fun H_12 locs h_new hch hS => ?_)
        have hO := hO.ch hch (by have q9 := hk; unfold adF at q9; omega)
        have hV := hV.ch hch (by have q9 := hk; unfold adF at q9; omega)
        have hRo := hRo.ch hch (by have q9 := hk; unfold adF at q9; omega)
        have hQo := hQo.ch hch (by have q9 := hk; unfold adF at q9; omega)
        have hRa := hRa.ch hch (by have q9 := hk; unfold adF at q9; omega)
        have sz_H_12 := hch.1
        clear hch
        have hQa : gI z true .int H_12 vq1 (j + 1) (upd (dI q1) j (nI qh)) := h_new
        replace hQa : gI z true .int H_12 vq1 (j + 1) (dI (dup q1 j (qh % 4294967296))) := by
          have q := hQa
          rw [dI_put] at q
          exact q
        have bd_13 : ∀ ix, (dup q1 j (qh % 4294967296)) ix < 4294967296 := dup_lt hq1b (Nat.mod_lt _ (by decide))
        have hla := kn_last (q1 := (dup q1 j (qh % 4294967296))) hi2 (by rw [dup_s, Nat.mod_eq_of_lt (by omega)]; exact hqf) (fun i h => dup_n (by omega))
        have hun := kn_unsh (N := seg d 0 n) (D := seg ee 0 m0) (S := 2 ^ sh) (by rw [← hDv]; exact hla) (by rw [← hDv]; exact Nat.mod_lt _ hDpos) (Nat.two_pow_pos _)
        have hQf := hun.1
        have hou : ∀ i, (i < j + 1 ∨ j + 1 + m0 ≤ i) → gg i = dup g j (0 % 4294967296) i := fun i h => by exact hgo i h
        have hsg : seg gg (j + 1) m0 = seg g j (m0 + 1) % seg e1 0 m0 := hks1.2
        have hu4 : ∀ i, i < j + 1 → gg i = 0 := fun i h => by
          rw [hou i (Or.inl h)]
          rcases Nat.lt_or_ge i j with c | c
          · rw [dup_n (by omega)]; exact hz i c
          · rw [show i = j by omega, dup_s]
        have hG0 := hu4 0 (by omega)
        have hGR : seg gg 0 (nl + 1) = (seg d 0 n % seg ee 0 m0) * 2 ^ sh := by
          rw [← hun.2, hlim, seg_app, seg_zero (fun i h1 h2 => hu4 i (by omega)), Nat.zero_mul, Nat.zero_add, Nat.zero_add, hsg]
        exact cutT ro vr vq1 nl (j + 1) sh gg (dup q1 j (qh % 4294967296)) (by have q9 := hk; unfold adF at q9; omega) hsh0 (by omega) (by omega) hgg bd_13 hG0 hGR hQf H_12 _ hS hRo hRa hQo hQa ls (lv_sub hl [1, 2, 3, 4, 5, 6, 8] rfl)
      · skip
        have c_1218 := mt (ai_leI (a := ((kk : Nat) + (-2147483648))) (b := (((g j) : Nat) + (-2147483648))) (rfl) (rfl) (by omega) (by omega) (by omega) (by omega)).mpr c_1218
        have hks2 := hks.2 (by omega)
        have hqf : qh - 1 = seg g j (m0 + 1) / seg e1 0 m0 := by rw [hks2.1, Nat.add_sub_cancel]
        refine lv_iload_n hx hb dJ24_divideMagnitude_1221 rfl (lv_at hl 4 rfl) ?_
        refine lv_if_eq (tgt := 1249) hx hb dJ24_divideMagnitude_1222 (by decide) (fun c_1222 => absurd c_1222 (by decide)) (fun c_1222 => ?_)
        refine lv_aload_n hx hb dJ24_divideMagnitude_1225 rfl (lv_at hl 1 rfl) ?_
        refine lv_aload hx hb dJ24_divideMagnitude_1226 (lv_at hl 7 rfl) ?_
        refine lv_aload hx hb dJ24_divideMagnitude_1228 (lv_at hl 8 rfl) ?_
        refine gw_get (C := RJ24) (T := TJ24) (N := 3) (v := .ref vr) hx hb hts in_J24 hown hal hRo 0 (by decide) (hts _ q979) (fun _ h9 => h9) rfl dJ24_divideMagnitude_1230 ?_
        refine lv_iload hx hb dJ24_divideMagnitude_1233 (lv_at hl 9 rfl) ?_
        refine lv_iconst (v := 1) hx hb dJ24_divideMagnitude_1235 (by decide) ?_
        refine lv_isub hx hb dJ24_divideMagnitude_1236 ?_
        refine g_topi (v := nI j) (ai_sub (a := (j + 1)) (b := 1) (rfl) (rfl) (by omega)) ?_
        refine lv_iconst (v := 1) hx hb dJ24_divideMagnitude_1237 (by decide) ?_
        refine lv_iadd hx hb dJ24_divideMagnitude_1238 ?_
        refine g_topi (v := nI (j + 1)) (ai_add (a := j) (b := 1) (rfl) (rfl)) ?_
        refine lv_aload hx hb dJ24_divideMagnitude_1239 (lv_at hl 8 rfl) ?_
        refine gw_get (C := RJ24) (T := TJ24) (N := 3) (v := .int 0) hx hb hts in_J24 hown hal hRo 2 (by decide) (hts _ q981) (fun _ h9 => h9) rfl dJ24_divideMagnitude_1241 ?_
        refine lv_iadd hx hb dJ24_divideMagnitude_1244 ?_
        refine g_topi (v := nI (j + 1)) (ai_add (a := (j + 1)) (b := 0) (rfl) (rfl)) ?_
        have hsz := hS.1
        refine gcV3_i hCF hwm hl.1 (m_divadd l z H_11 a vd vr (nl + 1) (j + 1) m0 true wa gg e1 va (nI n) 0 hk.vv (by omega) (by omega) (by omega) hgg he1 hRa hV hO ) (lw_V q1096 q1098 qs9 q85 q1099) ydv_J24_divadd (hO.recv hal) hS (fun q h => by have q9 := hk; unfold adF at q9; have hsz := hS.1; (try dsimp only at h ⊢) <;> omega) ⟨Nat.le_of_ble_eq_true rfl, Nat.le_of_ble_eq_true rfl⟩ ⟨by first | omega | (dsimp only; omega), by first | omega | (dsimp only; omega)⟩ (Nat.le_of_ble_eq_true rfl) dJ24_divideMagnitude_1245 (fun rk2 H_14 locs hp hex hS => ?_)
        have sz_H_14 : H_11.size ≤ H_14.size := hex.1
        have hO := hO.ex hex (by intro h; have q9 := hk; unfold adF at q9; (try dsimp only at h) <;> omega)
        have hV := hV.ex hex (by intro h; have q9 := hk; unfold adF at q9; (try dsimp only at h) <;> omega)
        have hRo := hRo.ex hex (by intro h; have q9 := hk; unfold adF at q9; (try dsimp only at h) <;> omega)
        have hQo := hQo.ex hex (by intro h; have q9 := hk; unfold adF at q9; (try dsimp only at h) <;> omega)
        have hQa := hQa.ex hex (by intro h; have q9 := hk; unfold adF at q9; (try dsimp only at h) <;> omega)
        clear hRa
        obtain ⟨k2, g2, hk2, hg2b, hg2o, hg2s, hRa⟩ := hp
        have hadd := kn_add hg2s hk2 hks2.2 (seg_lt hg2b _ _) (Nat.lt_trans (Nat.mod_lt _ hDpos) hDlt)
        have lt_vr := hRa.lt
        refine lv_pop hx hb dJ24_divideMagnitude_1248 rfl ?_
        refine lv_iinc (k := 14) (v := (nI (qh - 1))) hx hb dJ24_divideMagnitude_1249 hl rfl (ai_sbn (a := qh) (b := 1) (rfl) (show Int32.ofInt (-1) = -nI 1 by decide) (by omega)) (by decide) rfl (fun ls hl => ?_)
        have hl : lv_has ls 28 [(15, .int (nI (qh - 1))), (21, .int (nI kk)), (0, .ref a), (1, .ref b), (2, .ref qo), (3, .int 1), (4, .int (nI sh)), (5, .int (nI m0)), (6, .ref vd), (7, .ref ro), (9, .int (nI (j + 1))), (10, .ref vq1), (11, .int (nI (e1 0))), (12, .long (lN (e1 0))), (14, .int (nI (e1 1))), (18, .int (nI (g j))), (19, .int (iI (((g j) : Nat) + (-2147483648))))] := hl
        refine lv_aload hx hb dJ24_divideMagnitude_1252 (lv_at hl 11 rfl) ?_
        refine lv_iload hx hb dJ24_divideMagnitude_1254 (lv_at hl 10 rfl) ?_
        refine lv_iconst (v := 1) hx hb dJ24_divideMagnitude_1256 (by decide) ?_
        refine lv_isub hx hb dJ24_divideMagnitude_1257 ?_
        refine g_topi (v := nI j) (ai_sub (a := (j + 1)) (b := 1) (rfl) (rfl) (by omega)) ?_
        refine lv_iload hx hb dJ24_divideMagnitude_1258 (lv_at hl 0 rfl) ?_
        refine gw_iast (f := (dI q1)) hx hb hal hQa hS (by have q9 := hk; unfold adF at q9; have hsz := hS.1; (try dsimp only) <;> omega) j (rfl) (by omega) (by omega) dJ24_divideMagnitude_1260 (fun H_15 locs h_new hch hS => ?_)
        have hO := hO.ch hch (by have q9 := hk; unfold adF at q9; omega)
        have hV := hV.ch hch (by have q9 := hk; unfold adF at q9; omega)
        have hRo := hRo.ch hch (by have q9 := hk; unfold adF at q9; omega)
        have hQo := hQo.ch hch (by have q9 := hk; unfold adF at q9; omega)
        have hRa := hRa.ch hch (by have q9 := hk; unfold adF at q9; omega)
        have sz_H_15 := hch.1
        clear hch
        have hQa : gI z true .int H_15 vq1 (j + 1) (upd (dI q1) j (nI (qh - 1))) := h_new
        replace hQa : gI z true .int H_15 vq1 (j + 1) (dI (dup q1 j ((qh - 1) % 4294967296))) := by
          have q := hQa
          rw [dI_put] at q
          exact q
        have bd_16 : ∀ ix, (dup q1 j ((qh - 1) % 4294967296)) ix < 4294967296 := dup_lt hq1b (Nat.mod_lt _ (by decide))
        have hla := kn_last (q1 := (dup q1 j ((qh - 1) % 4294967296))) hi2 (by rw [dup_s, Nat.mod_eq_of_lt (by omega)]; exact hqf) (fun i h => dup_n (by omega))
        have hun := kn_unsh (N := seg d 0 n) (D := seg ee 0 m0) (S := 2 ^ sh) (by rw [← hDv]; exact hla) (by rw [← hDv]; exact Nat.mod_lt _ hDpos) (Nat.two_pow_pos _)
        have hQf := hun.1
        have hou : ∀ i, (i < j + 1 ∨ j + 1 + m0 ≤ i) → g2 i = dup g j (0 % 4294967296) i := fun i h => by rw [hg2o i h]; exact hgo i h
        have hsg : seg g2 (j + 1) m0 = seg g j (m0 + 1) % seg e1 0 m0 := hadd
        have hu4 : ∀ i, i < j + 1 → g2 i = 0 := fun i h => by
          rw [hou i (Or.inl h)]
          rcases Nat.lt_or_ge i j with c | c
          · rw [dup_n (by omega)]; exact hz i c
          · rw [show i = j by omega, dup_s]
        have hG0 := hu4 0 (by omega)
        have hGR : seg g2 0 (nl + 1) = (seg d 0 n % seg ee 0 m0) * 2 ^ sh := by
          rw [← hun.2, hlim, seg_app, seg_zero (fun i h1 h2 => hu4 i (by omega)), Nat.zero_mul, Nat.zero_add, Nat.zero_add, hsg]
        exact cutT ro vr vq1 nl (j + 1) sh g2 (dup q1 j ((qh - 1) % 4294967296)) (by have q9 := hk; unfold adF at q9; omega) hsh0 (by omega) (by omega) hg2b bd_16 hG0 hGR hQf H_15 _ hS hRo hRa hQo hQa ls (lv_sub hl [2, 3, 4, 5, 6, 7, 9] rfl)
    have cutE : ∀ (qh qr sk : Nat), (qh < 4294967296) → (qr < 4294967296) → (sk ≤ 1) → (seg g j (m0 + 1) / seg e1 0 m0 ≤ qh) → (sk = 0 → qh * e1 0 + qr = (g j * 4294967296 + g (j + 1))) → (sk = 1 → qh * (e1 0 * 4294967296 + e1 1) ≤ ((g j * 4294967296 + g (j + 1)) * 4294967296 + g (j + 2))) → (qh = 0 → (g j * 4294967296 + g (j + 1)) < e1 0) → ∀ (ls : Array Slot), lv_has ls 28 [(0, .ref a), (1, .ref b), (2, .ref qo), (3, .int 1), (4, .int (nI sh)), (5, .int (nI m0)), (6, .ref vd), (7, .ref ro), (9, .int (nI (j + 1))), (10, .ref vq1), (11, .int (nI (e1 0))), (12, .long (lN (e1 0))), (14, .int (nI (e1 1))), (15, .int (nI qh)), (16, .int (nI qr)), (17, .int (nI sk)), (18, .int (nI (g j))), (19, .int (iI (((g j) : Nat) + (-2147483648))))] → W p l e { frames := 3, cells := 4, slots := (2 * n + 7), locals := 65 } s m [.ref a, .ref b, .ref qo, .int 1].toArray below meth c H_8 locs 4 (2 * n + 7) (MQ below (gRr (fun q => q = qo ∨ q = vq ∨ H0.size ≤ q) H0 (fun r H1 => H0.size ≤ r ∧ ∃ v1 v2, v1 ≠ v2 ∧ (v1 = vq ∨ H0.size ≤ v1) ∧ v1 ≠ qo ∧ H0.size ≤ v2 ∧ v1 ≠ r ∧ v2 ≠ r ∧ mV z H1 qo v1 (n + 2) (seg d 0 n / seg ee 0 m0) ∧ mV z H1 r v2 (n + 2) (seg d 0 n % seg ee 0 m0))) [.ref a, .ref b, .ref qo, .int 1].toArray s 4 (2 * n + 7) (fun q => q = qo ∨ q = vq ∨ H0.size ≤ q)) (F0 m 987 ls []) := by
      intro qh qr sk hc1 hc2 hc3 hc4 hc5 hc6 hc7 ls hl
      refine lv_iload hx hb dJ24_divideMagnitude_987 (lv_at hl 13 rfl) ?_
      refine lv_if_eq (tgt := 1261) hx hb dJ24_divideMagnitude_989 (by decide) (fun c_989 => ?_) (fun c_989 => ?_)
      · skip
        have c_989 := (ai_eqU (a := qh) (b := 0) (rfl) (rfl) (hc1) (by omega)).mp c_989
        have hzr := kn_zero hg he1 hm2 (hc7 c_989)
        have hXz : seg g j (m0 + 1) / seg e1 0 m0 = 0 := Nat.div_eq_of_lt hzr.2.1
        have hla := kn_last (q1 := q1) hi2 (by rw [hXz]; exact hq0 j (Nat.le_refl _) (by omega)) (fun i _ => rfl)
        have hun := kn_unsh (N := seg d 0 n) (D := seg ee 0 m0) (S := 2 ^ sh) (by rw [← hDv]; exact hla) (by rw [← hDv]; exact Nat.mod_lt _ hDpos) (Nat.two_pow_pos _)
        have hQf := hun.1
        have hG0 : g 0 = 0 := by
          rcases Nat.eq_zero_or_pos j with c | c
          · rw [← c]; exact hzr.1
          · exact hz 0 c
        have hGR : seg g 0 (nl + 1) = (seg d 0 n % seg ee 0 m0) * 2 ^ sh := by
          rw [← hun.2, hlim, seg_app, seg_zero (fun i h1 h2 => by rcases Nat.lt_or_ge i j with c | c; exact hz i c; rw [show i = j by omega]; exact hzr.1), Nat.zero_mul, Nat.zero_add, Nat.zero_add, ← hzr.2.2, Nat.mod_eq_of_lt hzr.2.1]
        exact cutT ro vr vq1 nl (j + 1) sh g q1 (by have q9 := hk; unfold adF at q9; omega) hsh0 (by omega) (by omega) hg hq1b hG0 hGR hQf H_8 _ hS hRo hRa hQo hQa ls (lv_sub hl [0, 1, 2, 3, 4, 5, 7] rfl)
      · skip
        have c_989 := mt (ai_eqU (a := qh) (b := 0) (rfl) (rfl) (hc1) (by omega)).mpr c_989
        refine lv_iload hx hb dJ24_divideMagnitude_992 (lv_at hl 15 rfl) ?_
        refine lv_if_ne (tgt := 1133) hx hb dJ24_divideMagnitude_994 (by decide) (fun c_994 => ?_) (fun c_994 => ?_)
        · skip
          have c_994 := mt (ai_eq (a := sk) (b := 0) (rfl) (rfl) (by omega) (by omega)).mpr c_994
          have hf1 := hc1
          have hf4 := hc4
          have hf8 := hc6 (by omega)
          exact cutF qh hf1 hf4 hf8 ls (lv_sub hl [0, 1, 2, 3, 4, 5, 6, 7, 8, 9, 10, 11, 12, 13, 16, 17] rfl)
        · skip
          have c_994 := (ai_eq (a := sk) (b := 0) (rfl) (rfl) (by omega) (by omega)).mp c_994
          have hQE : qh * e1 0 + qr = (g j * 4294967296 + g (j + 1)) := hc5 (by omega)
          refine lv_aload hx hb dJ24_divideMagnitude_997 (lv_at hl 7 rfl) ?_
          refine gw_get (C := RJ24) (T := TJ24) (N := 3) (v := .ref vr) hx hb hts in_J24 hown hal hRo 0 (by decide) (hts _ q979) (fun _ h9 => h9) rfl dJ24_divideMagnitude_999 ?_
          refine lv_iload hx hb dJ24_divideMagnitude_1002 (lv_at hl 8 rfl) ?_
          refine lv_iconst (v := 1) hx hb dJ24_divideMagnitude_1004 (by decide) ?_
          refine lv_iadd hx hb dJ24_divideMagnitude_1005 ?_
          refine g_topi (v := nI (j + 2)) (ai_add (a := (j + 1)) (b := 1) (rfl) (rfl)) ?_
          refine lv_aload hx hb dJ24_divideMagnitude_1006 (lv_at hl 7 rfl) ?_
          refine gw_get (C := RJ24) (T := TJ24) (N := 3) (v := .int 0) hx hb hts in_J24 hown hal hRo 2 (by decide) (hts _ q981) (fun _ h9 => h9) rfl dJ24_divideMagnitude_1008 ?_
          refine lv_iadd hx hb dJ24_divideMagnitude_1011 ?_
          refine g_topi (v := nI (j + 2)) (ai_add (a := (j + 2)) (b := 0) (rfl) (rfl)) ?_
          refine gw_iald hx hb hal hRa (j + 2) (rfl) (by omega) (by omega) dJ24_divideMagnitude_1012 ?_
          refine g_topi (v := (nI (g (j + 2)))) rfl ?_
          refine lv_i2l hx hb dJ24_divideMagnitude_1013 rfl ?_
          refine lv_ldc2 (v := 4294967295) hx hb hown (hts _ q1035) dJ24_divideMagnitude_1014 ?_
          refine lv_land hx hb dJ24_divideMagnitude_1017 ?_
          refine g_topl (v := lN (g (j + 2))) (mk32 (a := (g (j + 2))) (rfl) (hg _)) ?_
          refine lv_lstore hx hb dJ24_divideMagnitude_1018 hl (by decide) rfl (fun ls hl => ?_)
          have hl : lv_has ls 28 [(21, .long (lN (g (j + 2)))), (0, .ref a), (1, .ref b), (2, .ref qo), (3, .int 1), (4, .int (nI sh)), (5, .int (nI m0)), (6, .ref vd), (7, .ref ro), (9, .int (nI (j + 1))), (10, .ref vq1), (11, .int (nI (e1 0))), (12, .long (lN (e1 0))), (14, .int (nI (e1 1))), (15, .int (nI qh)), (16, .int (nI qr)), (17, .int (nI sk)), (18, .int (nI (g j))), (19, .int (iI (((g j) : Nat) + (-2147483648))))] := hl
          refine lv_iload hx hb dJ24_divideMagnitude_1020 (lv_at hl 15 rfl) ?_
          refine lv_i2l hx hb dJ24_divideMagnitude_1022 rfl ?_
          refine lv_ldc2 (v := 4294967295) hx hb hown (hts _ q1035) dJ24_divideMagnitude_1023 ?_
          refine lv_land hx hb dJ24_divideMagnitude_1026 ?_
          refine g_topl (v := lN qr) (mk32 (a := qr) (rfl) (by omega)) ?_
          refine lv_bipush (v := 32) hx hb dJ24_divideMagnitude_1027 (by decide) ?_
          refine lv_lshl hx hb dJ24_divideMagnitude_1029 rfl ?_
          refine g_topl (v := lN (qr * 4294967296)) (lN_shl32 (a := qr)) ?_
          refine lv_lload hx hb dJ24_divideMagnitude_1030 (lv_at hl 0 rfl) ?_
          refine lv_lor hx hb dJ24_divideMagnitude_1032 ?_
          refine g_topl (v := (lN (qr * 4294967296 + g (j + 2)))) (lN_or hg2 hc2) ?_
          refine lv_lstore hx hb dJ24_divideMagnitude_1033 hl (by decide) rfl (fun ls hl => ?_)
          have hl : lv_has ls 28 [(23, .long (lN (qr * 4294967296 + g (j + 2)))), (21, .long (lN (g (j + 2)))), (0, .ref a), (1, .ref b), (2, .ref qo), (3, .int 1), (4, .int (nI sh)), (5, .int (nI m0)), (6, .ref vd), (7, .ref ro), (9, .int (nI (j + 1))), (10, .ref vq1), (11, .int (nI (e1 0))), (12, .long (lN (e1 0))), (14, .int (nI (e1 1))), (15, .int (nI qh)), (16, .int (nI qr)), (17, .int (nI sk)), (18, .int (nI (g j))), (19, .int (iI (((g j) : Nat) + (-2147483648))))] := hl
          refine lv_iload hx hb dJ24_divideMagnitude_1035 (lv_at hl 14 rfl) ?_
          refine lv_i2l hx hb dJ24_divideMagnitude_1037 rfl ?_
          refine lv_ldc2 (v := 4294967295) hx hb hown (hts _ q1035) dJ24_divideMagnitude_1038 ?_
          refine lv_land hx hb dJ24_divideMagnitude_1041 ?_
          refine g_topl (v := lN (e1 1)) (mk32 (a := (e1 1)) (rfl) (he1 _)) ?_
          refine lv_iload hx hb dJ24_divideMagnitude_1042 (lv_at hl 15 rfl) ?_
          refine lv_i2l hx hb dJ24_divideMagnitude_1044 rfl ?_
          refine lv_ldc2 (v := 4294967295) hx hb hown (hts _ q1035) dJ24_divideMagnitude_1045 ?_
          refine lv_land hx hb dJ24_divideMagnitude_1048 ?_
          refine g_topl (v := lN qh) (mk32 (a := qh) (rfl) (hc1)) ?_
          refine lv_lmul hx hb dJ24_divideMagnitude_1049 ?_
          refine g_topl (v := lN ((e1 1) * qh)) (ai_mulL (a := (e1 1)) (b := qh) (rfl) (rfl)) ?_
          refine lv_lstore hx hb dJ24_divideMagnitude_1050 hl (by decide) rfl (fun ls hl => ?_)
          have hl : lv_has ls 28 [(25, .long (lN ((e1 1) * qh))), (23, .long (lN (qr * 4294967296 + g (j + 2)))), (21, .long (lN (g (j + 2)))), (0, .ref a), (1, .ref b), (2, .ref qo), (3, .int 1), (4, .int (nI sh)), (5, .int (nI m0)), (6, .ref vd), (7, .ref ro), (9, .int (nI (j + 1))), (10, .ref vq1), (11, .int (nI (e1 0))), (12, .long (lN (e1 0))), (14, .int (nI (e1 1))), (15, .int (nI qh)), (16, .int (nI qr)), (17, .int (nI sk)), (18, .int (nI (g j))), (19, .int (iI (((g j) : Nat) + (-2147483648))))] := hl
          refine lv_aload_n hx hb dJ24_divideMagnitude_1052 rfl (lv_at hl 3 rfl) ?_
          refine lv_lload hx hb dJ24_divideMagnitude_1053 (lv_at hl 0 rfl) ?_
          refine lv_lload hx hb dJ24_divideMagnitude_1055 (lv_at hl 1 rfl) ?_
          refine gcV2_iP hCF hwm hl.1 (m_uCmp l z H_8 a (e1 1 * qh) (qr * 4294967296 + g (j + 2)) (kn_u he11 hc1) (kn_v hc2 hg2) ) (lw_V q1087 q1089 qs7 q85 q1090) ydv_J24_unsignedLongCompare (hO.recv hal) ⟨Nat.le_of_ble_eq_true rfl, Nat.le_of_ble_eq_true rfl⟩ ⟨by first | omega | (dsimp only; omega), by first | omega | (dsimp only; omega)⟩ (Nat.le_of_ble_eq_true rfl) dJ24_divideMagnitude_1057 (fun r_17 hp => ?_)
          subst hp
          refine lv_if_eq (tgt := 1133) hx hb dJ24_divideMagnitude_1060 (by decide) (fun c_1060 => ?_) (fun c_1060 => ?_)
          · skip
            have c_1060 := gb_0.mp c_1060
            have hle1 := of_decide_eq_false c_1060
            have hf1 := hc1
            have hf4 := hc4
            have hf8 := kn_ok (nl := g (j + 2)) hQE (Nat.le_of_not_lt hle1)
            exact cutF qh hf1 hf4 hf8 ls (lv_sub hl [3, 4, 5, 6, 7, 8, 9, 10, 11, 12, 13, 14, 15, 16, 19, 20] rfl)
          · skip
            have c_1060 := gb_n0 c_1060
            have hgt1 := of_decide_eq_true (by simpa using c_1060)
            have hf4 := kn_over hDs hXs hx0 (kn_gt (nl := g (j + 2)) hQE hgt1) hDpos
            have hqp : 0 < qh := Nat.pos_of_ne_zero fun q => absurd hgt1 (by rw [q, Nat.mul_zero]; exact Nat.not_lt_zero _)
            have hqm : e1 1 * (qh - 1) = e1 1 * qh - e1 1 := by rw [Nat.mul_sub, Nat.mul_one]
            have hqs := Nat.le_mul_of_pos_right (e1 1) hqp
            have hQE2 := kn_e1 hQE hqp
            have hf1 : qh - 1 < 4294967296 := Nat.lt_of_le_of_lt (Nat.sub_le _ _) hc1
            refine lv_iinc (k := 16) (v := (nI (qh - 1))) hx hb dJ24_divideMagnitude_1063 hl rfl (ai_sbn (a := qh) (b := 1) rfl (show Int32.ofInt (-1) = -nI 1 by decide) hqp) (by decide) rfl (fun ls hl => ?_)
            have hl : lv_has ls 28 [(15, .int (nI (qh - 1))), (25, .long (lN ((e1 1) * qh))), (23, .long (lN (qr * 4294967296 + g (j + 2)))), (21, .long (lN (g (j + 2)))), (0, .ref a), (1, .ref b), (2, .ref qo), (3, .int 1), (4, .int (nI sh)), (5, .int (nI m0)), (6, .ref vd), (7, .ref ro), (9, .int (nI (j + 1))), (10, .ref vq1), (11, .int (nI (e1 0))), (12, .long (lN (e1 0))), (14, .int (nI (e1 1))), (16, .int (nI qr)), (17, .int (nI sk)), (18, .int (nI (g j))), (19, .int (iI (((g j) : Nat) + (-2147483648))))] := hl
            refine lv_iload hx hb dJ24_divideMagnitude_1066 (lv_at hl 17 rfl) ?_
            refine lv_i2l hx hb dJ24_divideMagnitude_1068 rfl ?_
            refine lv_ldc2 (v := 4294967295) hx hb hown (hts _ q1035) dJ24_divideMagnitude_1069 ?_
            refine lv_land hx hb dJ24_divideMagnitude_1072 ?_
            refine g_topl (v := lN qr) (mk32 (a := qr) (rfl) (by omega)) ?_
            refine lv_lload hx hb dJ24_divideMagnitude_1073 (lv_at hl 15 rfl) ?_
            refine lv_ladd hx hb dJ24_divideMagnitude_1075 ?_
            refine g_topl (v := lN (qr + (e1 0))) (ai_addL (a := qr) (b := (e1 0)) (rfl) (rfl)) ?_
            refine lv_l2i hx hb dJ24_divideMagnitude_1076 rfl ?_
            refine g_topi (v := (nI ((qr + e1 0) % 4294967296))) ((ai_l2i (a := qr + e1 0) rfl).trans (nI_mod _).symm) ?_
            refine lv_istore hx hb dJ24_divideMagnitude_1077 hl (by decide) rfl (fun ls hl => ?_)
            have hl : lv_has ls 28 [(16, .int (nI ((qr + e1 0) % 4294967296))), (15, .int (nI (qh - 1))), (25, .long (lN ((e1 1) * qh))), (23, .long (lN (qr * 4294967296 + g (j + 2)))), (21, .long (lN (g (j + 2)))), (0, .ref a), (1, .ref b), (2, .ref qo), (3, .int 1), (4, .int (nI sh)), (5, .int (nI m0)), (6, .ref vd), (7, .ref ro), (9, .int (nI (j + 1))), (10, .ref vq1), (11, .int (nI (e1 0))), (12, .long (lN (e1 0))), (14, .int (nI (e1 1))), (17, .int (nI sk)), (18, .int (nI (g j))), (19, .int (iI (((g j) : Nat) + (-2147483648))))] := hl
            refine lv_iload hx hb dJ24_divideMagnitude_1079 (lv_at hl 0 rfl) ?_
            refine lv_i2l hx hb dJ24_divideMagnitude_1081 rfl ?_
            refine lv_ldc2 (v := 4294967295) hx hb hown (hts _ q1035) dJ24_divideMagnitude_1082 ?_
            refine lv_land hx hb dJ24_divideMagnitude_1085 ?_
            refine g_topl (v := lN ((qr + e1 0) % 4294967296)) (mk32 (a := ((qr + e1 0) % 4294967296)) (rfl) (Nat.mod_lt _ (by decide))) ?_
            refine lv_lload hx hb dJ24_divideMagnitude_1086 (lv_at hl 16 rfl) ?_
            refine W.lcmp hx hb dJ24_divideMagnitude_1088 ?_
            refine lv_if_lt (tgt := 1133) hx hb dJ24_divideMagnitude_1089 (by decide) (fun c_1089 => ?_) (fun c_1089 => ?_)
            · skip
              have c_1089 := (ai_clt (a := (((qr + e1 0) % 4294967296) : Nat)) (b := ((e1 0) : Nat)) (lN_lI _) (lN_lI _) (by omega) (by omega) (by omega) (by omega)).mp c_1089
              have hf8 := kn_ov (nl := g (j + 2)) hQE2 (kn_c1 hc2 he10 c_1089) hf1 he11
              exact cutF (qh - 1) hf1 hf4 hf8 ls (lv_sub hl [5, 6, 7, 8, 9, 10, 11, 12, 13, 14, 15, 16, 17, 1, 19, 20] rfl)
            · skip
              have c_1089 := mt (ai_clt (a := (((qr + e1 0) % 4294967296) : Nat)) (b := ((e1 0) : Nat)) (lN_lI _) (lN_lI _) (by omega) (by omega) (by omega) (by omega)).mpr c_1089
              have hrm := kn_c2 hc2 he10 c_1089
              refine lv_lload hx hb dJ24_divideMagnitude_1092 (lv_at hl 2 rfl) ?_
              refine lv_iload hx hb dJ24_divideMagnitude_1094 (lv_at hl 17 rfl) ?_
              refine lv_i2l hx hb dJ24_divideMagnitude_1096 rfl ?_
              refine lv_ldc2 (v := 4294967295) hx hb hown (hts _ q1035) dJ24_divideMagnitude_1097 ?_
              refine lv_land hx hb dJ24_divideMagnitude_1100 ?_
              refine g_topl (v := lN (e1 1)) (mk32 (a := (e1 1)) (rfl) (he1 _)) ?_
              refine lv_lsub hx hb dJ24_divideMagnitude_1101 ?_
              refine g_topl (v := lN (((e1 1) * qh) - (e1 1))) (ai_subL (a := ((e1 1) * qh)) (b := (e1 1)) (rfl) (rfl) (hqs)) ?_
              refine lv_lstore hx hb dJ24_divideMagnitude_1102 hl (by decide) rfl (fun ls hl => ?_)
              have hl : lv_has ls 28 [(25, .long (lN (((e1 1) * qh) - (e1 1)))), (16, .int (nI ((qr + e1 0) % 4294967296))), (15, .int (nI (qh - 1))), (23, .long (lN (qr * 4294967296 + g (j + 2)))), (21, .long (lN (g (j + 2)))), (0, .ref a), (1, .ref b), (2, .ref qo), (3, .int 1), (4, .int (nI sh)), (5, .int (nI m0)), (6, .ref vd), (7, .ref ro), (9, .int (nI (j + 1))), (10, .ref vq1), (11, .int (nI (e1 0))), (12, .long (lN (e1 0))), (14, .int (nI (e1 1))), (17, .int (nI sk)), (18, .int (nI (g j))), (19, .int (iI (((g j) : Nat) + (-2147483648))))] := hl
              refine lv_iload hx hb dJ24_divideMagnitude_1104 (lv_at hl 1 rfl) ?_
              refine lv_i2l hx hb dJ24_divideMagnitude_1106 rfl ?_
              refine lv_ldc2 (v := 4294967295) hx hb hown (hts _ q1035) dJ24_divideMagnitude_1107 ?_
              refine lv_land hx hb dJ24_divideMagnitude_1110 ?_
              refine g_topl (v := lN ((qr + e1 0) % 4294967296)) (mk32 (a := ((qr + e1 0) % 4294967296)) (rfl) (Nat.mod_lt _ (by decide))) ?_
              refine lv_bipush (v := 32) hx hb dJ24_divideMagnitude_1111 (by decide) ?_
              refine lv_lshl hx hb dJ24_divideMagnitude_1113 rfl ?_
              refine g_topl (v := lN (((qr + e1 0) % 4294967296) * 4294967296)) (lN_shl32 (a := ((qr + e1 0) % 4294967296))) ?_
              refine lv_lload hx hb dJ24_divideMagnitude_1114 (lv_at hl 4 rfl) ?_
              refine lv_lor hx hb dJ24_divideMagnitude_1116 ?_
              refine g_topl (v := (lN ((qr + e1 0) % 4294967296 * 4294967296 + g (j + 2)))) (lN_or hg2 (Nat.mod_lt _ (by decide))) ?_
              refine lv_lstore hx hb dJ24_divideMagnitude_1117 hl (by decide) rfl (fun ls hl => ?_)
              have hl : lv_has ls 28 [(23, .long (lN ((qr + e1 0) % 4294967296 * 4294967296 + g (j + 2)))), (25, .long (lN (((e1 1) * qh) - (e1 1)))), (16, .int (nI ((qr + e1 0) % 4294967296))), (15, .int (nI (qh - 1))), (21, .long (lN (g (j + 2)))), (0, .ref a), (1, .ref b), (2, .ref qo), (3, .int 1), (4, .int (nI sh)), (5, .int (nI m0)), (6, .ref vd), (7, .ref ro), (9, .int (nI (j + 1))), (10, .ref vq1), (11, .int (nI (e1 0))), (12, .long (lN (e1 0))), (14, .int (nI (e1 1))), (17, .int (nI sk)), (18, .int (nI (g j))), (19, .int (iI (((g j) : Nat) + (-2147483648))))] := hl
              refine lv_aload_n hx hb dJ24_divideMagnitude_1119 rfl (lv_at hl 5 rfl) ?_
              refine lv_lload hx hb dJ24_divideMagnitude_1120 (lv_at hl 1 rfl) ?_
              refine lv_lload hx hb dJ24_divideMagnitude_1122 (lv_at hl 0 rfl) ?_
              refine gcV2_iP hCF hwm hl.1 (m_uCmp l z H_8 a (e1 1 * qh - e1 1) ((qr + e1 0) % 4294967296 * 4294967296 + g (j + 2)) (Nat.lt_of_le_of_lt (Nat.sub_le _ _) (kn_u he11 hc1)) (kn_v (Nat.mod_lt _ (by decide)) hg2) ) (lw_V q1087 q1089 qs7 q85 q1090) ydv_J24_unsignedLongCompare (hO.recv hal) ⟨Nat.le_of_ble_eq_true rfl, Nat.le_of_ble_eq_true rfl⟩ ⟨by first | omega | (dsimp only; omega), by first | omega | (dsimp only; omega)⟩ (Nat.le_of_ble_eq_true rfl) dJ24_divideMagnitude_1124 (fun r_18 hp => ?_)
              subst hp
              refine lv_if_eq (tgt := 1133) hx hb dJ24_divideMagnitude_1127 (by decide) (fun c_1127 => ?_) (fun c_1127 => ?_)
              · skip
                have c_1127 := gb_0.mp c_1127
                have hle2 := of_decide_eq_false c_1127
                rw [hrm] at hle2
                have hf8 := kn_ok (nl := g (j + 2)) hQE2 (by rw [hqm]; exact Nat.le_of_not_lt hle2)
                exact cutF (qh - 1) hf1 hf4 hf8 ls (lv_sub hl [5, 6, 7, 8, 9, 10, 11, 12, 13, 14, 15, 16, 17, 3, 19, 20] rfl)
              · skip
                have c_1127 := gb_n0 c_1127
                have hgt2 := of_decide_eq_true (by simpa using c_1127)
                rw [hrm] at hgt2
                have htwo := kn_two hgt2
                replace hf4 := kn_over hDs hXs hx0 (kn_gt (nl := g (j + 2)) hQE2 (by rw [hqm]; exact hgt2)) hDpos
                replace hf1 : qh - 1 - 1 < 4294967296 := Nat.lt_of_le_of_lt (Nat.sub_le _ _) hf1
                have hf8 := kn_ov (nl := g (j + 2)) (kn_e1 hQE2 (show 0 < qh - 1 by clear hDs hXs hd0 hx0 hDpos hXB hi2 hf4; omega)) (kn_rr hD2 (Nat.le_add_left _ _)) hf1 he11
                refine lv_iinc (k := 3) (v := (nI (qh - 1 - 1))) hx hb dJ24_divideMagnitude_1130 hl rfl (ai_sbn (a := qh - 1) (b := 1) rfl (show Int32.ofInt (-1) = -nI 1 by decide) (Nat.le_sub_of_add_le htwo)) (by decide) rfl (fun ls hl => ?_)
                have hl : lv_has ls 28 [(15, .int (nI (qh - 1 - 1))), (23, .long (lN ((qr + e1 0) % 4294967296 * 4294967296 + g (j + 2)))), (25, .long (lN (((e1 1) * qh) - (e1 1)))), (16, .int (nI ((qr + e1 0) % 4294967296))), (21, .long (lN (g (j + 2)))), (0, .ref a), (1, .ref b), (2, .ref qo), (3, .int 1), (4, .int (nI sh)), (5, .int (nI m0)), (6, .ref vd), (7, .ref ro), (9, .int (nI (j + 1))), (10, .ref vq1), (11, .int (nI (e1 0))), (12, .long (lN (e1 0))), (14, .int (nI (e1 1))), (17, .int (nI sk)), (18, .int (nI (g j))), (19, .int (iI (((g j) : Nat) + (-2147483648))))] := hl
                exact cutF (qh - 1 - 1) hf1 hf4 hf8 ls (lv_sub hl [5, 6, 7, 8, 9, 10, 11, 12, 13, 14, 15, 16, 17, 0, 19, 20] rfl)
    refine lv_iconst (v := 0) hx hb dJ24_divideMagnitude_828 (by decide) ?_
    refine lv_istore hx hb dJ24_divideMagnitude_829 hl (by decide) rfl (fun ls hl => ?_)
    have hl : lv_has ls 28 [(15, .int 0), (0, .ref a), (1, .ref b), (2, .ref qo), (3, .int 1), (4, .int (nI sh)), (5, .int (nI m0)), (6, .ref vd), (7, .ref ro), (9, .int (nI (j + 1))), (10, .ref vq1), (11, .int (nI (e1 0))), (12, .long (lN (e1 0))), (14, .int (nI (e1 1)))] := hl
    refine lv_iconst (v := 0) hx hb dJ24_divideMagnitude_831 (by decide) ?_
    refine lv_istore hx hb dJ24_divideMagnitude_832 hl (by decide) rfl (fun ls hl => ?_)
    have hl : lv_has ls 28 [(16, .int 0), (15, .int 0), (0, .ref a), (1, .ref b), (2, .ref qo), (3, .int 1), (4, .int (nI sh)), (5, .int (nI m0)), (6, .ref vd), (7, .ref ro), (9, .int (nI (j + 1))), (10, .ref vq1), (11, .int (nI (e1 0))), (12, .long (lN (e1 0))), (14, .int (nI (e1 1)))] := hl
    refine lv_iconst (v := 0) hx hb dJ24_divideMagnitude_834 (by decide) ?_
    refine lv_istore hx hb dJ24_divideMagnitude_835 hl (by decide) rfl (fun ls hl => ?_)
    have hl : lv_has ls 28 [(17, .int 0), (16, .int 0), (15, .int 0), (0, .ref a), (1, .ref b), (2, .ref qo), (3, .int 1), (4, .int (nI sh)), (5, .int (nI m0)), (6, .ref vd), (7, .ref ro), (9, .int (nI (j + 1))), (10, .ref vq1), (11, .int (nI (e1 0))), (12, .long (lN (e1 0))), (14, .int (nI (e1 1)))] := hl
    refine lv_aload hx hb dJ24_divideMagnitude_837 (lv_at hl 10 rfl) ?_
    refine gw_get (C := RJ24) (T := TJ24) (N := 3) (v := .ref vr) hx hb hts in_J24 hown hal hRo 0 (by decide) (hts _ q979) (fun _ h9 => h9) rfl dJ24_divideMagnitude_839 ?_
    refine lv_iload hx hb dJ24_divideMagnitude_842 (lv_at hl 11 rfl) ?_
    refine lv_iconst (v := 1) hx hb dJ24_divideMagnitude_844 (by decide) ?_
    refine lv_isub hx hb dJ24_divideMagnitude_845 ?_
    refine g_topi (v := nI j) (ai_sub (a := (j + 1)) (b := 1) (rfl) (rfl) (by omega)) ?_
    refine lv_aload hx hb dJ24_divideMagnitude_846 (lv_at hl 10 rfl) ?_
    refine gw_get (C := RJ24) (T := TJ24) (N := 3) (v := .int 0) hx hb hts in_J24 hown hal hRo 2 (by decide) (hts _ q981) (fun _ h9 => h9) rfl dJ24_divideMagnitude_848 ?_
    refine lv_iadd hx hb dJ24_divideMagnitude_851 ?_
    refine g_topi (v := nI j) (ai_add (a := j) (b := 0) (rfl) (rfl)) ?_
    refine gw_iald hx hb hal hRa j (rfl) (by omega) (by omega) dJ24_divideMagnitude_852 ?_
    refine g_topi (v := (nI (g j))) rfl ?_
    refine lv_istore hx hb dJ24_divideMagnitude_853 hl (by decide) rfl (fun ls hl => ?_)
    have hl : lv_has ls 28 [(18, .int (nI (g j))), (17, .int 0), (16, .int 0), (15, .int 0), (0, .ref a), (1, .ref b), (2, .ref qo), (3, .int 1), (4, .int (nI sh)), (5, .int (nI m0)), (6, .ref vd), (7, .ref ro), (9, .int (nI (j + 1))), (10, .ref vq1), (11, .int (nI (e1 0))), (12, .long (lN (e1 0))), (14, .int (nI (e1 1)))] := hl
    refine lv_iload hx hb dJ24_divideMagnitude_855 (lv_at hl 0 rfl) ?_
    refine lv_ldc (v := -2147483648) hx hb hown (hts _ q1012) dJ24_divideMagnitude_857 ?_
    refine lv_iadd hx hb dJ24_divideMagnitude_859 ?_
    refine g_topi (v := iI (((g j) : Nat) + (-2147483648))) (ai_addI (a := ((g j) : Nat)) (b := (-2147483648)) (nI_iI _) (by decide)) ?_
    refine lv_istore hx hb dJ24_divideMagnitude_860 hl (by decide) rfl (fun ls hl => ?_)
    have hl : lv_has ls 28 [(19, .int (iI (((g j) : Nat) + (-2147483648)))), (18, .int (nI (g j))), (17, .int 0), (16, .int 0), (15, .int 0), (0, .ref a), (1, .ref b), (2, .ref qo), (3, .int 1), (4, .int (nI sh)), (5, .int (nI m0)), (6, .ref vd), (7, .ref ro), (9, .int (nI (j + 1))), (10, .ref vq1), (11, .int (nI (e1 0))), (12, .long (lN (e1 0))), (14, .int (nI (e1 1)))] := hl
    refine lv_aload hx hb dJ24_divideMagnitude_862 (lv_at hl 12 rfl) ?_
    refine gw_get (C := RJ24) (T := TJ24) (N := 3) (v := .ref vr) hx hb hts in_J24 hown hal hRo 0 (by decide) (hts _ q979) (fun _ h9 => h9) rfl dJ24_divideMagnitude_864 ?_
    refine lv_iload hx hb dJ24_divideMagnitude_867 (lv_at hl 13 rfl) ?_
    refine lv_aload hx hb dJ24_divideMagnitude_869 (lv_at hl 12 rfl) ?_
    refine gw_get (C := RJ24) (T := TJ24) (N := 3) (v := .int 0) hx hb hts in_J24 hown hal hRo 2 (by decide) (hts _ q981) (fun _ h9 => h9) rfl dJ24_divideMagnitude_871 ?_
    refine lv_iadd hx hb dJ24_divideMagnitude_874 ?_
    refine g_topi (v := nI (j + 1)) (ai_add (a := (j + 1)) (b := 0) (rfl) (rfl)) ?_
    refine gw_iald hx hb hal hRa (j + 1) (rfl) (by omega) (by omega) dJ24_divideMagnitude_875 ?_
    refine g_topi (v := (nI (g (j + 1)))) rfl ?_
    refine lv_istore hx hb dJ24_divideMagnitude_876 hl (by decide) rfl (fun ls hl => ?_)
    have hl : lv_has ls 28 [(20, .int (nI (g (j + 1)))), (19, .int (iI (((g j) : Nat) + (-2147483648)))), (18, .int (nI (g j))), (17, .int 0), (16, .int 0), (15, .int 0), (0, .ref a), (1, .ref b), (2, .ref qo), (3, .int 1), (4, .int (nI sh)), (5, .int (nI m0)), (6, .ref vd), (7, .ref ro), (9, .int (nI (j + 1))), (10, .ref vq1), (11, .int (nI (e1 0))), (12, .long (lN (e1 0))), (14, .int (nI (e1 1)))] := hl
    refine lv_iload hx hb dJ24_divideMagnitude_878 (lv_at hl 2 rfl) ?_
    refine lv_iload hx hb dJ24_divideMagnitude_880 (lv_at hl 16 rfl) ?_
    refine lv_icmp_ne (tgt := 915) hx hb dJ24_divideMagnitude_882 (by decide) (fun c_882 => ?_) (fun c_882 => ?_)
    · skip
      have c_882 := mt (ai_eqU (a := (g j)) (b := (e1 0)) (rfl) (rfl) (hg _) (he1 _)).mpr c_882
      have hnh2 : g j < e1 0 := by omega
      have hq9 := dow_q hnh2 hg1
      have hq8 := Nat.div_add_mod (g j * 4294967296 + g (j + 1)) (e1 0)
      have hq7 := Nat.mod_lt (g j * 4294967296 + g (j + 1)) (show 0 < e1 0 by omega)
      have hb1 : (g j * 4294967296 + g (j + 1)) / e1 0 < 4294967296 := hq9
      have hb2 : (g j * 4294967296 + g (j + 1)) % e1 0 < 4294967296 := Nat.lt_trans hq7 he10
      have hb4 := kn_b hDs hXs hx0 hg2 (show 0 < e1 0 by omega) hDpos
      have hb5 : 0 = 0 → (g j * 4294967296 + g (j + 1)) / e1 0 * e1 0 + (g j * 4294967296 + g (j + 1)) % e1 0 = (g j * 4294967296 + g (j + 1)) := fun _ => by rw [Nat.mul_comm]; exact hq8
      have hb6 : 0 = 1 → (g j * 4294967296 + g (j + 1)) / e1 0 * (e1 0 * 4294967296 + e1 1) ≤ ((g j * 4294967296 + g (j + 1)) * 4294967296 + g (j + 2)) := fun q => by cases q
      have hb7 : (g j * 4294967296 + g (j + 1)) / e1 0 = 0 → (g j * 4294967296 + g (j + 1)) < e1 0 := fun q => by rw [q, Nat.mul_zero] at hq8; omega
      refine lv_iload hx hb dJ24_divideMagnitude_915 (lv_at hl 2 rfl) ?_
      refine lv_i2l hx hb dJ24_divideMagnitude_917 rfl ?_
      refine lv_bipush (v := 32) hx hb dJ24_divideMagnitude_918 (by decide) ?_
      refine lv_lshl hx hb dJ24_divideMagnitude_920 rfl ?_
      refine g_topl (v := (lN (g j * 4294967296))) (i2l_shl hg0) ?_
      refine lv_iload hx hb dJ24_divideMagnitude_921 (lv_at hl 0 rfl) ?_
      refine lv_i2l hx hb dJ24_divideMagnitude_923 rfl ?_
      refine lv_ldc2 (v := 4294967295) hx hb hown (hts _ q1035) dJ24_divideMagnitude_924 ?_
      refine lv_land hx hb dJ24_divideMagnitude_927 ?_
      refine g_topl (v := lN (g (j + 1))) (mk32 (a := (g (j + 1))) (rfl) (hg _)) ?_
      refine lv_lor hx hb dJ24_divideMagnitude_928 ?_
      refine g_topl (v := (lN (g j * 4294967296 + g (j + 1)))) (lN_or hg1 hg0) ?_
      refine lv_lstore hx hb dJ24_divideMagnitude_929 hl (by decide) rfl (fun ls hl => ?_)
      have hl : lv_has ls 28 [(21, .long (lN (g j * 4294967296 + g (j + 1)))), (20, .int (nI (g (j + 1)))), (19, .int (iI (((g j) : Nat) + (-2147483648)))), (18, .int (nI (g j))), (17, .int 0), (16, .int 0), (15, .int 0), (0, .ref a), (1, .ref b), (2, .ref qo), (3, .int 1), (4, .int (nI sh)), (5, .int (nI m0)), (6, .ref vd), (7, .ref ro), (9, .int (nI (j + 1))), (10, .ref vq1), (11, .int (nI (e1 0))), (12, .long (lN (e1 0))), (14, .int (nI (e1 1)))] := hl
      refine lv_lload hx hb dJ24_divideMagnitude_931 (lv_at hl 0 rfl) ?_
      refine lv_lconst (v := 0) hx hb dJ24_divideMagnitude_933 (by decide) ?_
      refine W.lcmp hx hb dJ24_divideMagnitude_934 ?_
      refine lv_if_lt (tgt := 961) hx hb dJ24_divideMagnitude_935 (by decide) (fun c_935 => ?_) (fun c_935 => ?_)
      · skip
        have c_935 := (lN_neg0 (by omega)).mp c_935
        refine lv_lload hx hb dJ24_divideMagnitude_961 (lv_at hl 0 rfl) ?_
        refine lv_iload hx hb dJ24_divideMagnitude_963 (lv_at hl 17 rfl) ?_
        refine gcS2_lP hCF hwm hl.1 (m_divWord l z H_8  (g j * 4294967296 + g (j + 1)) (e1 0) hD2 he10 (by omega) hq9 ) (lw_S q1037 q1038 q85 q1039) yd_J24_divWord ⟨Nat.le_of_ble_eq_true rfl, Nat.le_of_ble_eq_true rfl⟩ ⟨by first | omega | (dsimp only; omega), by first | omega | (dsimp only; omega)⟩ (Nat.le_of_ble_eq_true rfl) dJ24_divideMagnitude_965 (fun r_19 hp => ?_)
        subst hp
        refine lv_lstore hx hb dJ24_divideMagnitude_968 hl (by decide) rfl (fun ls hl => ?_)
        have hl : lv_has ls 28 [(23, .long (lN ((g j * 4294967296 + g (j + 1)) % e1 0 * 4294967296 + (g j * 4294967296 + g (j + 1)) / e1 0))), (21, .long (lN (g j * 4294967296 + g (j + 1)))), (20, .int (nI (g (j + 1)))), (19, .int (iI (((g j) : Nat) + (-2147483648)))), (18, .int (nI (g j))), (17, .int 0), (16, .int 0), (15, .int 0), (0, .ref a), (1, .ref b), (2, .ref qo), (3, .int 1), (4, .int (nI sh)), (5, .int (nI m0)), (6, .ref vd), (7, .ref ro), (9, .int (nI (j + 1))), (10, .ref vq1), (11, .int (nI (e1 0))), (12, .long (lN (e1 0))), (14, .int (nI (e1 1)))] := hl
        refine lv_lload hx hb dJ24_divideMagnitude_970 (lv_at hl 0 rfl) ?_
        refine lv_ldc2 (v := 4294967295) hx hb hown (hts _ q1035) dJ24_divideMagnitude_972 ?_
        refine lv_land hx hb dJ24_divideMagnitude_975 ?_
        refine g_topl (v := lN (((g j * 4294967296 + g (j + 1)) % e1 0 * 4294967296 + (g j * 4294967296 + g (j + 1)) / e1 0) % 4294967296)) (lN_and _) ?_
        refine lv_l2i hx hb dJ24_divideMagnitude_976 rfl ?_
        refine g_topi (v := (nI ((g j * 4294967296 + g (j + 1)) / e1 0))) ((ai_l2i (a := ((g j * 4294967296 + g (j + 1)) % e1 0 * 4294967296 + (g j * 4294967296 + g (j + 1)) / e1 0) % 4294967296) rfl).trans (congrArg nI (kn_lo hq9))) ?_
        refine lv_istore hx hb dJ24_divideMagnitude_977 hl (by decide) rfl (fun ls hl => ?_)
        have hl : lv_has ls 28 [(15, .int (nI ((g j * 4294967296 + g (j + 1)) / e1 0))), (23, .long (lN ((g j * 4294967296 + g (j + 1)) % e1 0 * 4294967296 + (g j * 4294967296 + g (j + 1)) / e1 0))), (21, .long (lN (g j * 4294967296 + g (j + 1)))), (20, .int (nI (g (j + 1)))), (19, .int (iI (((g j) : Nat) + (-2147483648)))), (18, .int (nI (g j))), (17, .int 0), (16, .int 0), (0, .ref a), (1, .ref b), (2, .ref qo), (3, .int 1), (4, .int (nI sh)), (5, .int (nI m0)), (6, .ref vd), (7, .ref ro), (9, .int (nI (j + 1))), (10, .ref vq1), (11, .int (nI (e1 0))), (12, .long (lN (e1 0))), (14, .int (nI (e1 1)))] := hl
        refine lv_lload hx hb dJ24_divideMagnitude_979 (lv_at hl 1 rfl) ?_
        refine lv_bipush (v := 32) hx hb dJ24_divideMagnitude_981 (by decide) ?_
        refine lv_lushr hx hb dJ24_divideMagnitude_983 rfl ?_
        refine g_topl (v := lN (((g j * 4294967296 + g (j + 1)) % e1 0 * 4294967296 + (g j * 4294967296 + g (j + 1)) / e1 0) / 4294967296)) (lN_shr32 (a := ((g j * 4294967296 + g (j + 1)) % e1 0 * 4294967296 + (g j * 4294967296 + g (j + 1)) / e1 0)) (kn_v hb2 hq9)) ?_
        refine lv_l2i hx hb dJ24_divideMagnitude_984 rfl ?_
        refine g_topi (v := (nI ((g j * 4294967296 + g (j + 1)) % e1 0))) ((ai_l2i (a := ((g j * 4294967296 + g (j + 1)) % e1 0 * 4294967296 + (g j * 4294967296 + g (j + 1)) / e1 0) / 4294967296) rfl).trans (congrArg nI (kn_hi hq9))) ?_
        refine lv_istore hx hb dJ24_divideMagnitude_985 hl (by decide) rfl (fun ls hl => ?_)
        have hl : lv_has ls 28 [(16, .int (nI ((g j * 4294967296 + g (j + 1)) % e1 0))), (15, .int (nI ((g j * 4294967296 + g (j + 1)) / e1 0))), (23, .long (lN ((g j * 4294967296 + g (j + 1)) % e1 0 * 4294967296 + (g j * 4294967296 + g (j + 1)) / e1 0))), (21, .long (lN (g j * 4294967296 + g (j + 1)))), (20, .int (nI (g (j + 1)))), (19, .int (iI (((g j) : Nat) + (-2147483648)))), (18, .int (nI (g j))), (17, .int 0), (0, .ref a), (1, .ref b), (2, .ref qo), (3, .int 1), (4, .int (nI sh)), (5, .int (nI m0)), (6, .ref vd), (7, .ref ro), (9, .int (nI (j + 1))), (10, .ref vq1), (11, .int (nI (e1 0))), (12, .long (lN (e1 0))), (14, .int (nI (e1 1)))] := hl
        exact cutE ((g j * 4294967296 + g (j + 1)) / e1 0) ((g j * 4294967296 + g (j + 1)) % e1 0) 0 hb1 hb2 (by decide) hb4 hb5 hb6 hb7 ls (lv_sub hl [8, 9, 10, 11, 12, 13, 14, 15, 16, 17, 18, 19, 20, 1, 0, 7, 6, 5] rfl)
      · skip
        have c_935 := mt (lN_neg0 (by omega)).mpr c_935
        refine lv_lload hx hb dJ24_divideMagnitude_938 (lv_at hl 0 rfl) ?_
        refine lv_lload hx hb dJ24_divideMagnitude_940 (lv_at hl 18 rfl) ?_
        refine lv_ldiv hx hb dJ24_divideMagnitude_942 (lN_ne0 (by omega) (by omega)) ?_
        refine g_topl (v := (lN ((g j * 4294967296 + g (j + 1)) / e1 0))) (lN_div (by omega) (by omega) (by omega)) ?_
        refine lv_l2i hx hb dJ24_divideMagnitude_943 rfl ?_
        refine g_topi (v := nI ((g j * 4294967296 + g (j + 1)) / e1 0)) (ai_l2i (rfl)) ?_
        refine lv_istore hx hb dJ24_divideMagnitude_944 hl (by decide) rfl (fun ls hl => ?_)
        have hl : lv_has ls 28 [(15, .int (nI ((g j * 4294967296 + g (j + 1)) / e1 0))), (21, .long (lN (g j * 4294967296 + g (j + 1)))), (20, .int (nI (g (j + 1)))), (19, .int (iI (((g j) : Nat) + (-2147483648)))), (18, .int (nI (g j))), (17, .int 0), (16, .int 0), (0, .ref a), (1, .ref b), (2, .ref qo), (3, .int 1), (4, .int (nI sh)), (5, .int (nI m0)), (6, .ref vd), (7, .ref ro), (9, .int (nI (j + 1))), (10, .ref vq1), (11, .int (nI (e1 0))), (12, .long (lN (e1 0))), (14, .int (nI (e1 1)))] := hl
        refine lv_lload hx hb dJ24_divideMagnitude_946 (lv_at hl 1 rfl) ?_
        refine lv_iload hx hb dJ24_divideMagnitude_948 (lv_at hl 0 rfl) ?_
        refine lv_i2l hx hb dJ24_divideMagnitude_950 rfl ?_
        refine lv_lload hx hb dJ24_divideMagnitude_951 (lv_at hl 18 rfl) ?_
        refine lv_lmul hx hb dJ24_divideMagnitude_953 ?_
        refine lv_lsub hx hb dJ24_divideMagnitude_954 ?_
        refine lv_l2i hx hb dJ24_divideMagnitude_955 rfl ?_
        refine g_topi (v := (nI ((g j * 4294967296 + g (j + 1)) % e1 0))) ((l2i_sx (Nat.div_mul_le_self _ _) hq9).trans (congrArg nI kn_md)) ?_
        refine lv_istore hx hb dJ24_divideMagnitude_956 hl (by decide) rfl (fun ls hl => ?_)
        have hl : lv_has ls 28 [(16, .int (nI ((g j * 4294967296 + g (j + 1)) % e1 0))), (15, .int (nI ((g j * 4294967296 + g (j + 1)) / e1 0))), (21, .long (lN (g j * 4294967296 + g (j + 1)))), (20, .int (nI (g (j + 1)))), (19, .int (iI (((g j) : Nat) + (-2147483648)))), (18, .int (nI (g j))), (17, .int 0), (0, .ref a), (1, .ref b), (2, .ref qo), (3, .int 1), (4, .int (nI sh)), (5, .int (nI m0)), (6, .ref vd), (7, .ref ro), (9, .int (nI (j + 1))), (10, .ref vq1), (11, .int (nI (e1 0))), (12, .long (lN (e1 0))), (14, .int (nI (e1 1)))] := hl
        refine lv_goto (tgt := 987) hx hb dJ24_divideMagnitude_958 (by decide) ?_
        exact cutE ((g j * 4294967296 + g (j + 1)) / e1 0) ((g j * 4294967296 + g (j + 1)) % e1 0) 0 hb1 hb2 (by decide) hb4 hb5 hb6 hb7 ls (lv_sub hl [7, 8, 9, 10, 11, 12, 13, 14, 15, 16, 17, 18, 19, 1, 0, 6, 5, 4] rfl)
    · skip
      have c_882 := (ai_eqU (a := (g j)) (b := (e1 0)) (rfl) (rfl) (hg _) (he1 _)).mp c_882
      have hnh2 : g j = e1 0 := by omega
      refine lv_iconst (v := -1) hx hb dJ24_divideMagnitude_885 (by decide) ?_
      refine lv_istore hx hb dJ24_divideMagnitude_886 hl (by decide) rfl (fun ls hl => ?_)
      have hl : lv_has ls 28 [(15, .int (-1)), (20, .int (nI (g (j + 1)))), (19, .int (iI (((g j) : Nat) + (-2147483648)))), (18, .int (nI (g j))), (17, .int 0), (16, .int 0), (0, .ref a), (1, .ref b), (2, .ref qo), (3, .int 1), (4, .int (nI sh)), (5, .int (nI m0)), (6, .ref vd), (7, .ref ro), (9, .int (nI (j + 1))), (10, .ref vq1), (11, .int (nI (e1 0))), (12, .long (lN (e1 0))), (14, .int (nI (e1 1)))] := hl
      replace hl : lv_has ls 28 [(15, .int (nI 4294967295)), (20, .int (nI (g (j + 1)))), (19, .int (iI (((g j) : Nat) + (-2147483648)))), (18, .int (nI (g j))), (17, .int 0), (16, .int 0), (0, .ref a), (1, .ref b), (2, .ref qo), (3, .int 1), (4, .int (nI sh)), (5, .int (nI m0)), (6, .ref vd), (7, .ref ro), (9, .int (nI (j + 1))), (10, .ref vq1), (11, .int (nI (e1 0))), (12, .long (lN (e1 0))), (14, .int (nI (e1 1)))] := by
        rw [show nI 4294967295 = -1 by decide]
        exact hl
      refine lv_iload hx hb dJ24_divideMagnitude_888 (lv_at hl 3 rfl) ?_
      refine lv_iload hx hb dJ24_divideMagnitude_890 (lv_at hl 1 rfl) ?_
      refine lv_iadd hx hb dJ24_divideMagnitude_892 ?_
      refine g_topi (v := (nI ((g j + g (j + 1)) % 4294967296))) (by rw [nI_mod, nI_add]) ?_
      refine lv_istore hx hb dJ24_divideMagnitude_893 hl (by decide) rfl (fun ls hl => ?_)
      have hl : lv_has ls 28 [(16, .int (nI ((g j + g (j + 1)) % 4294967296))), (15, .int (nI 4294967295)), (20, .int (nI (g (j + 1)))), (19, .int (iI (((g j) : Nat) + (-2147483648)))), (18, .int (nI (g j))), (17, .int 0), (0, .ref a), (1, .ref b), (2, .ref qo), (3, .int 1), (4, .int (nI sh)), (5, .int (nI m0)), (6, .ref vd), (7, .ref ro), (9, .int (nI (j + 1))), (10, .ref vq1), (11, .int (nI (e1 0))), (12, .long (lN (e1 0))), (14, .int (nI (e1 1)))] := hl
      refine lv_iload hx hb dJ24_divideMagnitude_895 (lv_at hl 0 rfl) ?_
      refine lv_ldc (v := -2147483648) hx hb hown (hts _ q1012) dJ24_divideMagnitude_897 ?_
      refine lv_iadd hx hb dJ24_divideMagnitude_899 ?_
      refine g_topi (v := iI ((((g j + g (j + 1)) % 4294967296) : Nat) + (-2147483648))) (ai_addI (a := (((g j + g (j + 1)) % 4294967296) : Nat)) (b := (-2147483648)) (nI_iI _) (by decide)) ?_
      refine lv_iload hx hb dJ24_divideMagnitude_900 (lv_at hl 3 rfl) ?_
      refine lv_icmp_ge (tgt := 909) hx hb dJ24_divideMagnitude_902 (by decide) (fun c_902 => ?_) (fun c_902 => ?_)
      · skip
        have c_902 := (ai_leI (a := (((g j) : Nat) + (-2147483648))) (b := ((((g j + g (j + 1)) % 4294967296) : Nat) + (-2147483648))) (rfl) (rfl) (by omega) (by omega) (by omega) (by omega)).mp c_902
        have hb1 : 4294967295 < 4294967296 := by decide
        have hb2 : (g j + g (j + 1)) % 4294967296 < 4294967296 := Nat.mod_lt _ (by decide)
        have hb4 := kn_a hXB hDpos
        have hb5 : 0 = 0 → 4294967295 * e1 0 + (g j + g (j + 1)) % 4294967296 = (g j * 4294967296 + g (j + 1)) := fun _ => by omega
        have hb6 : 0 = 1 → 4294967295 * (e1 0 * 4294967296 + e1 1) ≤ ((g j * 4294967296 + g (j + 1)) * 4294967296 + g (j + 2)) := fun q => by cases q
        have hb7 : 4294967295 = 0 → (g j * 4294967296 + g (j + 1)) < e1 0 := fun q => by cases q
        refine lv_iconst (v := 0) hx hb dJ24_divideMagnitude_909 (by decide) ?_
        refine lv_istore hx hb dJ24_divideMagnitude_910 hl (by decide) rfl (fun ls hl => ?_)
        have hl : lv_has ls 28 [(17, .int 0), (16, .int (nI ((g j + g (j + 1)) % 4294967296))), (15, .int (nI 4294967295)), (20, .int (nI (g (j + 1)))), (19, .int (iI (((g j) : Nat) + (-2147483648)))), (18, .int (nI (g j))), (0, .ref a), (1, .ref b), (2, .ref qo), (3, .int 1), (4, .int (nI sh)), (5, .int (nI m0)), (6, .ref vd), (7, .ref ro), (9, .int (nI (j + 1))), (10, .ref vq1), (11, .int (nI (e1 0))), (12, .long (lN (e1 0))), (14, .int (nI (e1 1)))] := hl
        refine lv_goto (tgt := 987) hx hb dJ24_divideMagnitude_912 (by decide) ?_
        exact cutE 4294967295 ((g j + g (j + 1)) % 4294967296) 0 hb1 hb2 (by decide) hb4 hb5 hb6 hb7 ls (lv_sub hl [6, 7, 8, 9, 10, 11, 12, 13, 14, 15, 16, 17, 18, 2, 1, 0, 5, 4] rfl)
      · skip
        have c_902 := mt (ai_leI (a := (((g j) : Nat) + (-2147483648))) (b := ((((g j + g (j + 1)) % 4294967296) : Nat) + (-2147483648))) (rfl) (rfl) (by omega) (by omega) (by omega) (by omega)).mpr c_902
        have hb1 : 4294967295 < 4294967296 := by decide
        have hb2 : (g j + g (j + 1)) % 4294967296 < 4294967296 := Nat.mod_lt _ (by decide)
        have hb4 := kn_a hXB hDpos
        have hb5 : 1 = 0 → 4294967295 * e1 0 + (g j + g (j + 1)) % 4294967296 = (g j * 4294967296 + g (j + 1)) := fun q => by cases q
        have hb6 : 1 = 1 → 4294967295 * (e1 0 * 4294967296 + e1 1) ≤ ((g j * 4294967296 + g (j + 1)) * 4294967296 + g (j + 2)) := fun _ => kn_ov (r := g j + g (j + 1)) (by omega) (by omega) (by decide) he11
        have hb7 : 4294967295 = 0 → (g j * 4294967296 + g (j + 1)) < e1 0 := fun q => by cases q
        refine lv_iconst (v := 1) hx hb dJ24_divideMagnitude_905 (by decide) ?_
        refine lv_goto (tgt := 910) hx hb dJ24_divideMagnitude_906 (by decide) ?_
        refine lv_istore hx hb dJ24_divideMagnitude_910 hl (by decide) rfl (fun ls hl => ?_)
        have hl : lv_has ls 28 [(17, .int 1), (16, .int (nI ((g j + g (j + 1)) % 4294967296))), (15, .int (nI 4294967295)), (20, .int (nI (g (j + 1)))), (19, .int (iI (((g j) : Nat) + (-2147483648)))), (18, .int (nI (g j))), (0, .ref a), (1, .ref b), (2, .ref qo), (3, .int 1), (4, .int (nI sh)), (5, .int (nI m0)), (6, .ref vd), (7, .ref ro), (9, .int (nI (j + 1))), (10, .ref vq1), (11, .int (nI (e1 0))), (12, .long (lN (e1 0))), (14, .int (nI (e1 1)))] := hl
        refine lv_goto (tgt := 987) hx hb dJ24_divideMagnitude_912 (by decide) ?_
        exact cutE 4294967295 ((g j + g (j + 1)) % 4294967296) 1 hb1 hb2 (by decide) hb4 hb5 hb6 hb7 ls (lv_sub hl [6, 7, 8, 9, 10, 11, 12, 13, 14, 15, 16, 17, 18, 2, 1, 0, 5, 4] rfl)
  have cutA : ∀ (n_ : Nat) (vd ro vr vq1 nl lim sh j : Nat) (e1 g q1 : Nat → Nat), (∀ i, e1 i < 4294967296) → (2147483648 ≤ e1 0) → (seg e1 0 m0 = seg ee 0 m0 * 2 ^ sh) → (sh < 32) → (n ≤ nl ∧ nl ≤ n + 1) → (adF H0.size vq qo vd ro vr vq1) → (nl + 1 = lim + m0) → (j < lim) → (∀ i, g i < 4294967296) → (∀ i, q1 i < 4294967296) → (seg g j m0 < seg e1 0 m0) → (seg d 0 n * 2 ^ sh = seg q1 0 j * 4294967296 ^ (lim - j) * seg e1 0 m0 + seg g j (m0 + (lim - j))) → (∀ i, i < j → g i = 0) → (∀ i, j ≤ i → i < lim → q1 i = 0) → (0 < sh ∧ sh < 32) → (lim - j) < n_ → ∀ (H_20 : Heap) (locs : List Loc), va_S (fun q => q = qo ∨ q = vq ∨ H0.size ≤ q) H0 H_20 locs → gO z wa RJ24 TJ24 3 H_20 a [.ref va, .int (nI n), .int 0] → gI z true .int H_20 vd m0 (dI e1) → gO z true RJ24 TJ24 3 H_20 ro [.ref vr, .int (nI (nl + 1)), .int 0] → gI z true .int H_20 vr (nl + 1) (dI g) → gO z true RJ24 TJ24 3 H_20 qo [.ref vq1, .int (nI lim), .int 0] → gI z true .int H_20 vq1 lim (dI q1) → ∀ (ls : Array Slot), lv_has ls 28 [(0, .ref a), (1, .ref b), (2, .ref qo), (3, .int 1), (4, .int (nI sh)), (5, .int (nI m0)), (6, .ref vd), (7, .ref ro), (9, .int (nI lim)), (10, .ref vq1), (11, .int (nI (e1 0))), (12, .long (lN (e1 0))), (14, .int (nI (e1 1))), (15, .int (nI j))] → W p l e { frames := 3, cells := 4, slots := (2 * n + 7), locals := 65 } s m [.ref a, .ref b, .ref qo, .int 1].toArray below meth c H_20 locs 4 (2 * n + 7) (MQ below (gRr (fun q => q = qo ∨ q = vq ∨ H0.size ≤ q) H0 (fun r H1 => H0.size ≤ r ∧ ∃ v1 v2, v1 ≠ v2 ∧ (v1 = vq ∨ H0.size ≤ v1) ∧ v1 ≠ qo ∧ H0.size ≤ v2 ∧ v1 ≠ r ∧ v2 ≠ r ∧ mV z H1 qo v1 (n + 2) (seg d 0 n / seg ee 0 m0) ∧ mV z H1 r v2 (n + 2) (seg d 0 n % seg ee 0 m0))) [.ref a, .ref b, .ref qo, .int 1].toArray s 4 (2 * n + 7) (fun q => q = qo ∨ q = vq ∨ H0.size ≤ q)) (F0 m 423 ls []) := by
    intro n_
    induction n_ with
    | zero => intro vd ro vr vq1 nl lim sh j e1 g q1 he1 hD2 hDv hsh hnl hk hlim hj hg hq1b hi1 hi2 hz hq0 hsh0 hm_; exact absurd hm_ (Nat.not_lt_zero _)
    | succ n_ ih_cutA =>
      intro vd ro vr vq1 nl lim sh j e1 g q1 he1 hD2 hDv hsh hnl hk hlim hj hg hq1b hi1 hi2 hz hq0 hsh0 hm_ H_20 locs hS hO hV hRo hRa hQo hQa ls hl
      have hDs := kn_split (d := e1) (o := 0) hm2
      rw [Nat.zero_add, Nat.zero_add] at hDs
      have hXs := kn_split3 (d := g) (o := j) hm2
      have hd0 := seg_lt he1 2 (m0 - 2)
      have hx0 := seg_lt hg (j + 3) (m0 - 2)
      have hDpos : 0 < seg e1 0 m0 := seg_pos (by omega) (by omega)
      have hXB := kn_xb hg hi1
      have hnh := kn_nh he1 (by omega) hi1
      have he10 := he1 0
      have he11 := he1 1
      have hg0 := hg j
      have hg1 := hg (j + 1)
      have hg2 := hg (j + 2)
      have cutC : ∀ (qh : Nat), (qh < 4294967296) → (seg g j (m0 + 1) / seg e1 0 m0 ≤ qh) → (qh * (e1 0 * 4294967296 + e1 1) ≤ ((g j * 4294967296 + g (j + 1)) * 4294967296 + g (j + 2))) → (j + 1 < lim) → ∀ (ls : Array Slot), lv_has ls 28 [(0, .ref a), (1, .ref b), (2, .ref qo), (3, .int 1), (4, .int (nI sh)), (5, .int (nI m0)), (6, .ref vd), (7, .ref ro), (9, .int (nI lim)), (10, .ref vq1), (11, .int (nI (e1 0))), (12, .long (lN (e1 0))), (14, .int (nI (e1 1))), (15, .int (nI j)), (16, .int (nI qh)), (19, .int (nI (g j))), (20, .int (iI (((g j) : Nat) + (-2147483648))))] → W p l e { frames := 3, cells := 4, slots := (2 * n + 7), locals := 65 } s m [.ref a, .ref b, .ref qo, .int 1].toArray below meth c H_20 locs 4 (2 * n + 7) (MQ below (gRr (fun q => q = qo ∨ q = vq ∨ H0.size ≤ q) H0 (fun r H1 => H0.size ≤ r ∧ ∃ v1 v2, v1 ≠ v2 ∧ (v1 = vq ∨ H0.size ≤ v1) ∧ v1 ≠ qo ∧ H0.size ≤ v2 ∧ v1 ≠ r ∧ v2 ≠ r ∧ mV z H1 qo v1 (n + 2) (seg d 0 n / seg ee 0 m0) ∧ mV z H1 r v2 (n + 2) (seg d 0 n % seg ee 0 m0))) [.ref a, .ref b, .ref qo, .int 1].toArray s 4 (2 * n + 7) (fun q => q = qo ∨ q = vq ∨ H0.size ≤ q)) (F0 m 740 ls []) := by
        intro qh hf1 hf4 hf8 hjl ls hl
        have hfin := kn_fin hDs hXs hd0 hf8 (by omega) hDpos
        have hXl : seg g j (m0 + 1) = g j * 4294967296 ^ m0 + seg g (j + 1) m0 := seg_l g j m0
        have hDlt : seg e1 0 m0 < 4294967296 ^ m0 := seg_lt he1 0 m0
        have hgz : seg (dup g j (0 % 4294967296)) (j + 1) m0 = seg g (j + 1) m0 := seg_cg fun i h1 h2 => dup_n (by omega)
        have hgzb : ∀ ix, dup g j (0 % 4294967296) ix < 4294967296 := dup_lt hg (by decide)
        refine lv_aload hx hb dJ24_divideMagnitude_740 (lv_at hl 7 rfl) ?_
        refine gw_get (C := RJ24) (T := TJ24) (N := 3) (v := .ref vr) hx hb hts in_J24 hown hal hRo 0 (by decide) (hts _ q979) (fun _ h9 => h9) rfl dJ24_divideMagnitude_742 ?_
        refine lv_iload hx hb dJ24_divideMagnitude_745 (lv_at hl 13 rfl) ?_
        refine lv_aload hx hb dJ24_divideMagnitude_747 (lv_at hl 7 rfl) ?_
        refine gw_get (C := RJ24) (T := TJ24) (N := 3) (v := .int 0) hx hb hts in_J24 hown hal hRo 2 (by decide) (hts _ q981) (fun _ h9 => h9) rfl dJ24_divideMagnitude_749 ?_
        refine lv_iadd hx hb dJ24_divideMagnitude_752 ?_
        refine g_topi (v := nI j) (ai_add (a := j) (b := 0) (rfl) (rfl)) ?_
        refine lv_iconst (v := 0) hx hb dJ24_divideMagnitude_753 (by decide) ?_
        refine gw_iast (f := (dI g)) hx hb hal hRa hS (by have q9 := hk; unfold adF at q9; have hsz := hS.1; (try dsimp only) <;> omega) j (rfl) (by omega) (by omega) dJ24_divideMagnitude_754 (fun H_21 locs h_new hch hS => ?_)
        have hO := hO.ch hch (by have q9 := hk; unfold adF at q9; omega)
        have hV := hV.ch hch (by have q9 := hk; unfold adF at q9; omega)
        have hRo := hRo.ch hch (by have q9 := hk; unfold adF at q9; omega)
        have hQo := hQo.ch hch (by have q9 := hk; unfold adF at q9; omega)
        have hQa := hQa.ch hch (by have q9 := hk; unfold adF at q9; omega)
        have sz_H_21 := hch.1
        clear hch
        have hRa : gI z true .int H_21 vr (nl + 1) (upd (dI g) j 0) := h_new
        replace hRa : gI z true .int H_21 vr (nl + 1) (dI (dup g j (0 % 4294967296))) := by
          have q := hRa
          rw [show (0 : Int32) = nI 0 from rfl] at q
          rw [dI_put] at q
          exact q
        have bd_22 : ∀ ix, (dup g j (0 % 4294967296)) ix < 4294967296 := dup_lt hg (Nat.mod_lt _ (by decide))
        refine lv_aload_n hx hb dJ24_divideMagnitude_755 rfl (lv_at hl 0 rfl) ?_
        refine lv_aload hx hb dJ24_divideMagnitude_756 (lv_at hl 7 rfl) ?_
        refine gw_get (C := RJ24) (T := TJ24) (N := 3) (v := .ref vr) hx hb hts in_J24 hown hal hRo 0 (by decide) (hts _ q979) (fun _ h9 => h9) rfl dJ24_divideMagnitude_758 ?_
        refine lv_aload hx hb dJ24_divideMagnitude_761 (lv_at hl 6 rfl) ?_
        refine lv_iload hx hb dJ24_divideMagnitude_763 (lv_at hl 14 rfl) ?_
        refine lv_iload hx hb dJ24_divideMagnitude_765 (lv_at hl 5 rfl) ?_
        refine lv_iload hx hb dJ24_divideMagnitude_767 (lv_at hl 13 rfl) ?_
        refine lv_aload hx hb dJ24_divideMagnitude_769 (lv_at hl 7 rfl) ?_
        refine gw_get (C := RJ24) (T := TJ24) (N := 3) (v := .int 0) hx hb hts in_J24 hown hal hRo 2 (by decide) (hts _ q981) (fun _ h9 => h9) rfl dJ24_divideMagnitude_771 ?_
        refine lv_iadd hx hb dJ24_divideMagnitude_774 ?_
        refine g_topi (v := nI j) (ai_add (a := j) (b := 0) (rfl) (rfl)) ?_
        have hsz := hS.1
        refine gcV5_i hCF hwm hl.1 (m_mulsub l z H_21 a vr vd (nl + 1) j m0 qh m0 true wa (dup g j (0 % 4294967296)) e1 va (nI n) 0 hk.vv (by omega) (by omega) (by omega) (Nat.le_refl _) hf1 hgzb he1 hRa hV hO ) (lw_V q1092 q1094 qs8 q85 q1095) ydv_J24_mulsub (hO.recv hal) hS (fun q h => by have q9 := hk; unfold adF at q9; have hsz := hS.1; (try dsimp only at h ⊢) <;> omega) ⟨Nat.le_of_ble_eq_true rfl, Nat.le_of_ble_eq_true rfl⟩ ⟨by first | omega | (dsimp only; omega), by first | omega | (dsimp only; omega)⟩ (Nat.le_of_ble_eq_true rfl) dJ24_divideMagnitude_775 (fun rk H_23 locs hp hex hS => ?_)
        have sz_H_23 : H_21.size ≤ H_23.size := hex.1
        have hO := hO.ex hex (by intro h; have q9 := hk; unfold adF at q9; (try dsimp only at h) <;> omega)
        have hV := hV.ex hex (by intro h; have q9 := hk; unfold adF at q9; (try dsimp only at h) <;> omega)
        have hRo := hRo.ex hex (by intro h; have q9 := hk; unfold adF at q9; (try dsimp only at h) <;> omega)
        have hQo := hQo.ex hex (by intro h; have q9 := hk; unfold adF at q9; (try dsimp only at h) <;> omega)
        have hQa := hQa.ex hex (by intro h; have q9 := hk; unfold adF at q9; (try dsimp only at h) <;> omega)
        clear hRa
        obtain ⟨kk, gg, hkk0, hkk, hgg, hgo, hms, hRa⟩ := hp
        subst hkk0
        rw [hgz] at hms
        have hks := kn_ms hXl hms (seg_lt hgg _ _) hDlt hDpos hf4 hfin
        have lt_vr := hRa.lt
        refine lv_istore hx hb dJ24_divideMagnitude_778 hl (by decide) rfl (fun ls hl => ?_)
        have hl : lv_has ls 28 [(22, .int (nI kk)), (0, .ref a), (1, .ref b), (2, .ref qo), (3, .int 1), (4, .int (nI sh)), (5, .int (nI m0)), (6, .ref vd), (7, .ref ro), (9, .int (nI lim)), (10, .ref vq1), (11, .int (nI (e1 0))), (12, .long (lN (e1 0))), (14, .int (nI (e1 1))), (15, .int (nI j)), (16, .int (nI qh)), (19, .int (nI (g j))), (20, .int (iI (((g j) : Nat) + (-2147483648))))] := hl
        refine lv_iload hx hb dJ24_divideMagnitude_780 (lv_at hl 0 rfl) ?_
        refine lv_ldc (v := -2147483648) hx hb hown (hts _ q1012) dJ24_divideMagnitude_782 ?_
        refine lv_iadd hx hb dJ24_divideMagnitude_784 ?_
        refine g_topi (v := iI ((kk : Nat) + (-2147483648))) (ai_addI (a := (kk : Nat)) (b := (-2147483648)) (nI_iI _) (by decide)) ?_
        refine lv_iload hx hb dJ24_divideMagnitude_785 (lv_at hl 17 rfl) ?_
        refine lv_icmp_le (tgt := 815) hx hb dJ24_divideMagnitude_787 (by decide) (fun c_787 => ?_) (fun c_787 => ?_)
        · skip
          have c_787 := (ai_leI (a := ((kk : Nat) + (-2147483648))) (b := (((g j) : Nat) + (-2147483648))) (rfl) (rfl) (by omega) (by omega) (by omega) (by omega)).mp c_787
          have hks1 := hks.1 (by omega)
          have hqf : qh = seg g j (m0 + 1) / seg e1 0 m0 := hks1.1
          refine lv_aload hx hb dJ24_divideMagnitude_815 (lv_at hl 10 rfl) ?_
          refine lv_iload hx hb dJ24_divideMagnitude_817 (lv_at hl 14 rfl) ?_
          refine lv_iload hx hb dJ24_divideMagnitude_819 (lv_at hl 15 rfl) ?_
          refine gw_iast (f := (dI q1)) hx hb hal hQa hS (by have q9 := hk; unfold adF at q9; have hsz := hS.1; (try dsimp only) <;> omega) j (rfl) (by omega) (by omega) dJ24_divideMagnitude_821 (fun H_24 locs h_new hch hS => ?_)
          have hO := hO.ch hch (by have q9 := hk; unfold adF at q9; omega)
          have hV := hV.ch hch (by have q9 := hk; unfold adF at q9; omega)
          have hRo := hRo.ch hch (by have q9 := hk; unfold adF at q9; omega)
          have hQo := hQo.ch hch (by have q9 := hk; unfold adF at q9; omega)
          have hRa := hRa.ch hch (by have q9 := hk; unfold adF at q9; omega)
          have sz_H_24 := hch.1
          clear hch
          have hQa : gI z true .int H_24 vq1 lim (upd (dI q1) j (nI qh)) := h_new
          replace hQa : gI z true .int H_24 vq1 lim (dI (dup q1 j (qh % 4294967296))) := by
            have q := hQa
            rw [dI_put] at q
            exact q
          have bd_25 : ∀ ix, (dup q1 j (qh % 4294967296)) ix < 4294967296 := dup_lt hq1b (Nat.mod_lt _ (by decide))
          have hou : ∀ i, (i < j + 1 ∨ j + 1 + m0 ≤ i) → gg i = dup g j (0 % 4294967296) i := fun i h => by exact hgo i h
          have hsg : seg gg (j + 1) m0 = seg g j (m0 + 1) % seg e1 0 m0 := hks1.2
          have hst := kn_step (g1 := gg) (q1 := (dup q1 j (qh % 4294967296))) hj hDpos hi2 (fun i h => by rw [hou i (Or.inr h)]; exact dup_n (by omega)) hsg (by rw [dup_s, Nat.mod_eq_of_lt (by omega)]; exact hqf) (fun i h => dup_n (by omega))
          have hu4 : ∀ i, i < j + 1 → gg i = 0 := fun i h => by
            rw [hou i (Or.inl h)]
            rcases Nat.lt_or_ge i j with c | c
            · rw [dup_n (by omega)]; exact hz i c
            · rw [show i = j by omega, dup_s]
          have hu5 : ∀ i, j + 1 ≤ i → i < lim → (dup q1 j (qh % 4294967296)) i = 0 := fun i h1 h2 => by rw [dup_n (by omega)]; exact hq0 i (by omega) h2
          refine lv_iinc (k := 14) (v := (nI (j + 1))) hx hb dJ24_divideMagnitude_822 hl rfl (ai_add (a := j) (b := 1) (rfl) (show Int32.ofInt 1 = nI 1 by decide)) (by decide) rfl (fun ls hl => ?_)
          have hl : lv_has ls 28 [(15, .int (nI (j + 1))), (22, .int (nI kk)), (0, .ref a), (1, .ref b), (2, .ref qo), (3, .int 1), (4, .int (nI sh)), (5, .int (nI m0)), (6, .ref vd), (7, .ref ro), (9, .int (nI lim)), (10, .ref vq1), (11, .int (nI (e1 0))), (12, .long (lN (e1 0))), (14, .int (nI (e1 1))), (16, .int (nI qh)), (19, .int (nI (g j))), (20, .int (iI (((g j) : Nat) + (-2147483648))))] := hl
          refine lv_goto (tgt := 423) hx hb dJ24_divideMagnitude_825 (by decide) ?_
          exact ih_cutA vd ro vr vq1 nl lim sh (j + 1) e1 gg (dup q1 j (qh % 4294967296)) he1 hD2 hDv hsh hnl hk hlim hjl hgg bd_25 hst.2 hst.1 hu4 hu5 hsh0 (by omega) H_24 _ hS hO hV hRo hRa hQo hQa ls (lv_sub hl [2, 3, 4, 5, 6, 7, 8, 9, 10, 11, 12, 13, 14, 0] rfl)
        · skip
          have c_787 := mt (ai_leI (a := ((kk : Nat) + (-2147483648))) (b := (((g j) : Nat) + (-2147483648))) (rfl) (rfl) (by omega) (by omega) (by omega) (by omega)).mpr c_787
          have hks2 := hks.2 (by omega)
          have hqf : qh - 1 = seg g j (m0 + 1) / seg e1 0 m0 := by rw [hks2.1, Nat.add_sub_cancel]
          refine lv_aload_n hx hb dJ24_divideMagnitude_790 rfl (lv_at hl 1 rfl) ?_
          refine lv_aload hx hb dJ24_divideMagnitude_791 (lv_at hl 7 rfl) ?_
          refine lv_aload hx hb dJ24_divideMagnitude_793 (lv_at hl 8 rfl) ?_
          refine gw_get (C := RJ24) (T := TJ24) (N := 3) (v := .ref vr) hx hb hts in_J24 hown hal hRo 0 (by decide) (hts _ q979) (fun _ h9 => h9) rfl dJ24_divideMagnitude_795 ?_
          refine lv_iload hx hb dJ24_divideMagnitude_798 (lv_at hl 14 rfl) ?_
          refine lv_iconst (v := 1) hx hb dJ24_divideMagnitude_800 (by decide) ?_
          refine lv_iadd hx hb dJ24_divideMagnitude_801 ?_
          refine g_topi (v := nI (j + 1)) (ai_add (a := j) (b := 1) (rfl) (rfl)) ?_
          refine lv_aload hx hb dJ24_divideMagnitude_802 (lv_at hl 8 rfl) ?_
          refine gw_get (C := RJ24) (T := TJ24) (N := 3) (v := .int 0) hx hb hts in_J24 hown hal hRo 2 (by decide) (hts _ q981) (fun _ h9 => h9) rfl dJ24_divideMagnitude_804 ?_
          refine lv_iadd hx hb dJ24_divideMagnitude_807 ?_
          refine g_topi (v := nI (j + 1)) (ai_add (a := (j + 1)) (b := 0) (rfl) (rfl)) ?_
          have hsz := hS.1
          refine gcV3_i hCF hwm hl.1 (m_divadd l z H_23 a vd vr (nl + 1) (j + 1) m0 true wa gg e1 va (nI n) 0 hk.vv (by omega) (by omega) (by omega) hgg he1 hRa hV hO ) (lw_V q1096 q1098 qs9 q85 q1099) ydv_J24_divadd (hO.recv hal) hS (fun q h => by have q9 := hk; unfold adF at q9; have hsz := hS.1; (try dsimp only at h ⊢) <;> omega) ⟨Nat.le_of_ble_eq_true rfl, Nat.le_of_ble_eq_true rfl⟩ ⟨by first | omega | (dsimp only; omega), by first | omega | (dsimp only; omega)⟩ (Nat.le_of_ble_eq_true rfl) dJ24_divideMagnitude_808 (fun rk2 H_26 locs hp hex hS => ?_)
          have sz_H_26 : H_23.size ≤ H_26.size := hex.1
          have hO := hO.ex hex (by intro h; have q9 := hk; unfold adF at q9; (try dsimp only at h) <;> omega)
          have hV := hV.ex hex (by intro h; have q9 := hk; unfold adF at q9; (try dsimp only at h) <;> omega)
          have hRo := hRo.ex hex (by intro h; have q9 := hk; unfold adF at q9; (try dsimp only at h) <;> omega)
          have hQo := hQo.ex hex (by intro h; have q9 := hk; unfold adF at q9; (try dsimp only at h) <;> omega)
          have hQa := hQa.ex hex (by intro h; have q9 := hk; unfold adF at q9; (try dsimp only at h) <;> omega)
          clear hRa
          obtain ⟨k2, g2, hk2, hg2b, hg2o, hg2s, hRa⟩ := hp
          have hadd := kn_add hg2s hk2 hks2.2 (seg_lt hg2b _ _) (Nat.lt_trans (Nat.mod_lt _ hDpos) hDlt)
          have lt_vr := hRa.lt
          refine lv_pop hx hb dJ24_divideMagnitude_811 rfl ?_
          refine lv_iinc (k := 15) (v := (nI (qh - 1))) hx hb dJ24_divideMagnitude_812 hl rfl (ai_sbn (a := qh) (b := 1) (rfl) (show Int32.ofInt (-1) = -nI 1 by decide) (by omega)) (by decide) rfl (fun ls hl => ?_)
          have hl : lv_has ls 28 [(16, .int (nI (qh - 1))), (22, .int (nI kk)), (0, .ref a), (1, .ref b), (2, .ref qo), (3, .int 1), (4, .int (nI sh)), (5, .int (nI m0)), (6, .ref vd), (7, .ref ro), (9, .int (nI lim)), (10, .ref vq1), (11, .int (nI (e1 0))), (12, .long (lN (e1 0))), (14, .int (nI (e1 1))), (15, .int (nI j)), (19, .int (nI (g j))), (20, .int (iI (((g j) : Nat) + (-2147483648))))] := hl
          refine lv_aload hx hb dJ24_divideMagnitude_815 (lv_at hl 11 rfl) ?_
          refine lv_iload hx hb dJ24_divideMagnitude_817 (lv_at hl 15 rfl) ?_
          refine lv_iload hx hb dJ24_divideMagnitude_819 (lv_at hl 0 rfl) ?_
          refine gw_iast (f := (dI q1)) hx hb hal hQa hS (by have q9 := hk; unfold adF at q9; have hsz := hS.1; (try dsimp only) <;> omega) j (rfl) (by omega) (by omega) dJ24_divideMagnitude_821 (fun H_27 locs h_new hch hS => ?_)
          have hO := hO.ch hch (by have q9 := hk; unfold adF at q9; omega)
          have hV := hV.ch hch (by have q9 := hk; unfold adF at q9; omega)
          have hRo := hRo.ch hch (by have q9 := hk; unfold adF at q9; omega)
          have hQo := hQo.ch hch (by have q9 := hk; unfold adF at q9; omega)
          have hRa := hRa.ch hch (by have q9 := hk; unfold adF at q9; omega)
          have sz_H_27 := hch.1
          clear hch
          have hQa : gI z true .int H_27 vq1 lim (upd (dI q1) j (nI (qh - 1))) := h_new
          replace hQa : gI z true .int H_27 vq1 lim (dI (dup q1 j ((qh - 1) % 4294967296))) := by
            have q := hQa
            rw [dI_put] at q
            exact q
          have bd_28 : ∀ ix, (dup q1 j ((qh - 1) % 4294967296)) ix < 4294967296 := dup_lt hq1b (Nat.mod_lt _ (by decide))
          have hou : ∀ i, (i < j + 1 ∨ j + 1 + m0 ≤ i) → g2 i = dup g j (0 % 4294967296) i := fun i h => by rw [hg2o i h]; exact hgo i h
          have hsg : seg g2 (j + 1) m0 = seg g j (m0 + 1) % seg e1 0 m0 := hadd
          have hst := kn_step (g1 := g2) (q1 := (dup q1 j ((qh - 1) % 4294967296))) hj hDpos hi2 (fun i h => by rw [hou i (Or.inr h)]; exact dup_n (by omega)) hsg (by rw [dup_s, Nat.mod_eq_of_lt (by omega)]; exact hqf) (fun i h => dup_n (by omega))
          have hu4 : ∀ i, i < j + 1 → g2 i = 0 := fun i h => by
            rw [hou i (Or.inl h)]
            rcases Nat.lt_or_ge i j with c | c
            · rw [dup_n (by omega)]; exact hz i c
            · rw [show i = j by omega, dup_s]
          have hu5 : ∀ i, j + 1 ≤ i → i < lim → (dup q1 j ((qh - 1) % 4294967296)) i = 0 := fun i h1 h2 => by rw [dup_n (by omega)]; exact hq0 i (by omega) h2
          refine lv_iinc (k := 15) (v := (nI (j + 1))) hx hb dJ24_divideMagnitude_822 hl rfl (ai_add (a := j) (b := 1) (rfl) (show Int32.ofInt 1 = nI 1 by decide)) (by decide) rfl (fun ls hl => ?_)
          have hl : lv_has ls 28 [(15, .int (nI (j + 1))), (16, .int (nI (qh - 1))), (22, .int (nI kk)), (0, .ref a), (1, .ref b), (2, .ref qo), (3, .int 1), (4, .int (nI sh)), (5, .int (nI m0)), (6, .ref vd), (7, .ref ro), (9, .int (nI lim)), (10, .ref vq1), (11, .int (nI (e1 0))), (12, .long (lN (e1 0))), (14, .int (nI (e1 1))), (19, .int (nI (g j))), (20, .int (iI (((g j) : Nat) + (-2147483648))))] := hl
          refine lv_goto (tgt := 423) hx hb dJ24_divideMagnitude_825 (by decide) ?_
          exact ih_cutA vd ro vr vq1 nl lim sh (j + 1) e1 g2 (dup q1 j ((qh - 1) % 4294967296)) he1 hD2 hDv hsh hnl hk hlim hjl hg2b bd_28 hst.2 hst.1 hu4 hu5 hsh0 (by omega) H_27 _ hS hO hV hRo hRa hQo hQa ls (lv_sub hl [3, 4, 5, 6, 7, 8, 9, 10, 11, 12, 13, 14, 15, 0] rfl)
      have cutB : ∀ (qh qr sk : Nat), (qh < 4294967296) → (qr < 4294967296) → (sk ≤ 1) → (seg g j (m0 + 1) / seg e1 0 m0 ≤ qh) → (sk = 0 → qh * e1 0 + qr = (g j * 4294967296 + g (j + 1))) → (sk = 1 → qh * (e1 0 * 4294967296 + e1 1) ≤ ((g j * 4294967296 + g (j + 1)) * 4294967296 + g (j + 2))) → (qh = 0 → (g j * 4294967296 + g (j + 1)) < e1 0) → (j + 1 < lim) → ∀ (ls : Array Slot), lv_has ls 28 [(0, .ref a), (1, .ref b), (2, .ref qo), (3, .int 1), (4, .int (nI sh)), (5, .int (nI m0)), (6, .ref vd), (7, .ref ro), (9, .int (nI lim)), (10, .ref vq1), (11, .int (nI (e1 0))), (12, .long (lN (e1 0))), (14, .int (nI (e1 1))), (15, .int (nI j)), (16, .int (nI qh)), (17, .int (nI qr)), (18, .int (nI sk)), (19, .int (nI (g j))), (20, .int (iI (((g j) : Nat) + (-2147483648))))] → W p l e { frames := 3, cells := 4, slots := (2 * n + 7), locals := 65 } s m [.ref a, .ref b, .ref qo, .int 1].toArray below meth c H_20 locs 4 (2 * n + 7) (MQ below (gRr (fun q => q = qo ∨ q = vq ∨ H0.size ≤ q) H0 (fun r H1 => H0.size ≤ r ∧ ∃ v1 v2, v1 ≠ v2 ∧ (v1 = vq ∨ H0.size ≤ v1) ∧ v1 ≠ qo ∧ H0.size ≤ v2 ∧ v1 ≠ r ∧ v2 ≠ r ∧ mV z H1 qo v1 (n + 2) (seg d 0 n / seg ee 0 m0) ∧ mV z H1 r v2 (n + 2) (seg d 0 n % seg ee 0 m0))) [.ref a, .ref b, .ref qo, .int 1].toArray s 4 (2 * n + 7) (fun q => q = qo ∨ q = vq ∨ H0.size ≤ q)) (F0 m 591 ls []) := by
        intro qh qr sk hc1 hc2 hc3 hc4 hc5 hc6 hc7 hjl ls hl
        refine lv_iload hx hb dJ24_divideMagnitude_591 (lv_at hl 14 rfl) ?_
        refine lv_if_ne (tgt := 599) hx hb dJ24_divideMagnitude_593 (by decide) (fun c_593 => ?_) (fun c_593 => ?_)
        · skip
          have c_593 := mt (ai_eqU (a := qh) (b := 0) (rfl) (rfl) (hc1) (by omega)).mpr c_593
          refine lv_iload hx hb dJ24_divideMagnitude_599 (lv_at hl 16 rfl) ?_
          refine lv_if_ne (tgt := 740) hx hb dJ24_divideMagnitude_601 (by decide) (fun c_601 => ?_) (fun c_601 => ?_)
          · skip
            have c_601 := mt (ai_eq (a := sk) (b := 0) (rfl) (rfl) (by omega) (by omega)).mpr c_601
            have hf1 := hc1
            have hf4 := hc4
            have hf8 := hc6 (by omega)
            exact cutC qh hf1 hf4 hf8 hjl ls (lv_sub hl [0, 1, 2, 3, 4, 5, 6, 7, 8, 9, 10, 11, 12, 13, 14, 17, 18] rfl)
          · skip
            have c_601 := (ai_eq (a := sk) (b := 0) (rfl) (rfl) (by omega) (by omega)).mp c_601
            have hQE : qh * e1 0 + qr = (g j * 4294967296 + g (j + 1)) := hc5 (by omega)
            refine lv_aload hx hb dJ24_divideMagnitude_604 (lv_at hl 7 rfl) ?_
            refine gw_get (C := RJ24) (T := TJ24) (N := 3) (v := .ref vr) hx hb hts in_J24 hown hal hRo 0 (by decide) (hts _ q979) (fun _ h9 => h9) rfl dJ24_divideMagnitude_606 ?_
            refine lv_iload hx hb dJ24_divideMagnitude_609 (lv_at hl 13 rfl) ?_
            refine lv_iconst (v := 2) hx hb dJ24_divideMagnitude_611 (by decide) ?_
            refine lv_iadd hx hb dJ24_divideMagnitude_612 ?_
            refine g_topi (v := nI (j + 2)) (ai_add (a := j) (b := 2) (rfl) (rfl)) ?_
            refine lv_aload hx hb dJ24_divideMagnitude_613 (lv_at hl 7 rfl) ?_
            refine gw_get (C := RJ24) (T := TJ24) (N := 3) (v := .int 0) hx hb hts in_J24 hown hal hRo 2 (by decide) (hts _ q981) (fun _ h9 => h9) rfl dJ24_divideMagnitude_615 ?_
            refine lv_iadd hx hb dJ24_divideMagnitude_618 ?_
            refine g_topi (v := nI (j + 2)) (ai_add (a := (j + 2)) (b := 0) (rfl) (rfl)) ?_
            refine gw_iald hx hb hal hRa (j + 2) (rfl) (by omega) (by omega) dJ24_divideMagnitude_619 ?_
            refine g_topi (v := (nI (g (j + 2)))) rfl ?_
            refine lv_i2l hx hb dJ24_divideMagnitude_620 rfl ?_
            refine lv_ldc2 (v := 4294967295) hx hb hown (hts _ q1035) dJ24_divideMagnitude_621 ?_
            refine lv_land hx hb dJ24_divideMagnitude_624 ?_
            refine g_topl (v := lN (g (j + 2))) (mk32 (a := (g (j + 2))) (rfl) (hg _)) ?_
            refine lv_lstore hx hb dJ24_divideMagnitude_625 hl (by decide) rfl (fun ls hl => ?_)
            have hl : lv_has ls 28 [(22, .long (lN (g (j + 2)))), (0, .ref a), (1, .ref b), (2, .ref qo), (3, .int 1), (4, .int (nI sh)), (5, .int (nI m0)), (6, .ref vd), (7, .ref ro), (9, .int (nI lim)), (10, .ref vq1), (11, .int (nI (e1 0))), (12, .long (lN (e1 0))), (14, .int (nI (e1 1))), (15, .int (nI j)), (16, .int (nI qh)), (17, .int (nI qr)), (18, .int (nI sk)), (19, .int (nI (g j))), (20, .int (iI (((g j) : Nat) + (-2147483648))))] := hl
            refine lv_iload hx hb dJ24_divideMagnitude_627 (lv_at hl 16 rfl) ?_
            refine lv_i2l hx hb dJ24_divideMagnitude_629 rfl ?_
            refine lv_ldc2 (v := 4294967295) hx hb hown (hts _ q1035) dJ24_divideMagnitude_630 ?_
            refine lv_land hx hb dJ24_divideMagnitude_633 ?_
            refine g_topl (v := lN qr) (mk32 (a := qr) (rfl) (by omega)) ?_
            refine lv_bipush (v := 32) hx hb dJ24_divideMagnitude_634 (by decide) ?_
            refine lv_lshl hx hb dJ24_divideMagnitude_636 rfl ?_
            refine g_topl (v := lN (qr * 4294967296)) (lN_shl32 (a := qr)) ?_
            refine lv_lload hx hb dJ24_divideMagnitude_637 (lv_at hl 0 rfl) ?_
            refine lv_lor hx hb dJ24_divideMagnitude_639 ?_
            refine g_topl (v := (lN (qr * 4294967296 + g (j + 2)))) (lN_or hg2 hc2) ?_
            refine lv_lstore hx hb dJ24_divideMagnitude_640 hl (by decide) rfl (fun ls hl => ?_)
            have hl : lv_has ls 28 [(24, .long (lN (qr * 4294967296 + g (j + 2)))), (22, .long (lN (g (j + 2)))), (0, .ref a), (1, .ref b), (2, .ref qo), (3, .int 1), (4, .int (nI sh)), (5, .int (nI m0)), (6, .ref vd), (7, .ref ro), (9, .int (nI lim)), (10, .ref vq1), (11, .int (nI (e1 0))), (12, .long (lN (e1 0))), (14, .int (nI (e1 1))), (15, .int (nI j)), (16, .int (nI qh)), (17, .int (nI qr)), (18, .int (nI sk)), (19, .int (nI (g j))), (20, .int (iI (((g j) : Nat) + (-2147483648))))] := hl
            refine lv_iload hx hb dJ24_divideMagnitude_642 (lv_at hl 14 rfl) ?_
            refine lv_i2l hx hb dJ24_divideMagnitude_644 rfl ?_
            refine lv_ldc2 (v := 4294967295) hx hb hown (hts _ q1035) dJ24_divideMagnitude_645 ?_
            refine lv_land hx hb dJ24_divideMagnitude_648 ?_
            refine g_topl (v := lN (e1 1)) (mk32 (a := (e1 1)) (rfl) (he1 _)) ?_
            refine lv_iload hx hb dJ24_divideMagnitude_649 (lv_at hl 16 rfl) ?_
            refine lv_i2l hx hb dJ24_divideMagnitude_651 rfl ?_
            refine lv_ldc2 (v := 4294967295) hx hb hown (hts _ q1035) dJ24_divideMagnitude_652 ?_
            refine lv_land hx hb dJ24_divideMagnitude_655 ?_
            refine g_topl (v := lN qh) (mk32 (a := qh) (rfl) (hc1)) ?_
            refine lv_lmul hx hb dJ24_divideMagnitude_656 ?_
            refine g_topl (v := lN ((e1 1) * qh)) (ai_mulL (a := (e1 1)) (b := qh) (rfl) (rfl)) ?_
            refine lv_lstore hx hb dJ24_divideMagnitude_657 hl (by decide) rfl (fun ls hl => ?_)
            have hl : lv_has ls 28 [(26, .long (lN ((e1 1) * qh))), (24, .long (lN (qr * 4294967296 + g (j + 2)))), (22, .long (lN (g (j + 2)))), (0, .ref a), (1, .ref b), (2, .ref qo), (3, .int 1), (4, .int (nI sh)), (5, .int (nI m0)), (6, .ref vd), (7, .ref ro), (9, .int (nI lim)), (10, .ref vq1), (11, .int (nI (e1 0))), (12, .long (lN (e1 0))), (14, .int (nI (e1 1))), (15, .int (nI j)), (16, .int (nI qh)), (17, .int (nI qr)), (18, .int (nI sk)), (19, .int (nI (g j))), (20, .int (iI (((g j) : Nat) + (-2147483648))))] := hl
            refine lv_aload_n hx hb dJ24_divideMagnitude_659 rfl (lv_at hl 3 rfl) ?_
            refine lv_lload hx hb dJ24_divideMagnitude_660 (lv_at hl 0 rfl) ?_
            refine lv_lload hx hb dJ24_divideMagnitude_662 (lv_at hl 1 rfl) ?_
            refine gcV2_iP hCF hwm hl.1 (m_uCmp l z H_20 a (e1 1 * qh) (qr * 4294967296 + g (j + 2)) (kn_u he11 hc1) (kn_v hc2 hg2) ) (lw_V q1087 q1089 qs7 q85 q1090) ydv_J24_unsignedLongCompare (hO.recv hal) ⟨Nat.le_of_ble_eq_true rfl, Nat.le_of_ble_eq_true rfl⟩ ⟨by first | omega | (dsimp only; omega), by first | omega | (dsimp only; omega)⟩ (Nat.le_of_ble_eq_true rfl) dJ24_divideMagnitude_664 (fun r_29 hp => ?_)
            subst hp
            refine lv_if_eq (tgt := 740) hx hb dJ24_divideMagnitude_667 (by decide) (fun c_667 => ?_) (fun c_667 => ?_)
            · skip
              have c_667 := gb_0.mp c_667
              have hle1 := of_decide_eq_false c_667
              have hf1 := hc1
              have hf4 := hc4
              have hf8 := kn_ok (nl := g (j + 2)) hQE (Nat.le_of_not_lt hle1)
              exact cutC qh hf1 hf4 hf8 hjl ls (lv_sub hl [3, 4, 5, 6, 7, 8, 9, 10, 11, 12, 13, 14, 15, 16, 17, 20, 21] rfl)
            · skip
              have c_667 := gb_n0 c_667
              have hgt1 := of_decide_eq_true (by simpa using c_667)
              have hf4 := kn_over hDs hXs hx0 (kn_gt (nl := g (j + 2)) hQE hgt1) hDpos
              have hqp : 0 < qh := Nat.pos_of_ne_zero fun q => absurd hgt1 (by rw [q, Nat.mul_zero]; exact Nat.not_lt_zero _)
              have hqm : e1 1 * (qh - 1) = e1 1 * qh - e1 1 := by rw [Nat.mul_sub, Nat.mul_one]
              have hqs := Nat.le_mul_of_pos_right (e1 1) hqp
              have hQE2 := kn_e1 hQE hqp
              have hf1 : qh - 1 < 4294967296 := Nat.lt_of_le_of_lt (Nat.sub_le _ _) hc1
              refine lv_iinc (k := 17) (v := (nI (qh - 1))) hx hb dJ24_divideMagnitude_670 hl rfl (ai_sbn (a := qh) (b := 1) rfl (show Int32.ofInt (-1) = -nI 1 by decide) hqp) (by decide) rfl (fun ls hl => ?_)
              have hl : lv_has ls 28 [(16, .int (nI (qh - 1))), (26, .long (lN ((e1 1) * qh))), (24, .long (lN (qr * 4294967296 + g (j + 2)))), (22, .long (lN (g (j + 2)))), (0, .ref a), (1, .ref b), (2, .ref qo), (3, .int 1), (4, .int (nI sh)), (5, .int (nI m0)), (6, .ref vd), (7, .ref ro), (9, .int (nI lim)), (10, .ref vq1), (11, .int (nI (e1 0))), (12, .long (lN (e1 0))), (14, .int (nI (e1 1))), (15, .int (nI j)), (17, .int (nI qr)), (18, .int (nI sk)), (19, .int (nI (g j))), (20, .int (iI (((g j) : Nat) + (-2147483648))))] := hl
              refine lv_iload hx hb dJ24_divideMagnitude_673 (lv_at hl 18 rfl) ?_
              refine lv_i2l hx hb dJ24_divideMagnitude_675 rfl ?_
              refine lv_ldc2 (v := 4294967295) hx hb hown (hts _ q1035) dJ24_divideMagnitude_676 ?_
              refine lv_land hx hb dJ24_divideMagnitude_679 ?_
              refine g_topl (v := lN qr) (mk32 (a := qr) (rfl) (by omega)) ?_
              refine lv_lload hx hb dJ24_divideMagnitude_680 (lv_at hl 15 rfl) ?_
              refine lv_ladd hx hb dJ24_divideMagnitude_682 ?_
              refine g_topl (v := lN (qr + (e1 0))) (ai_addL (a := qr) (b := (e1 0)) (rfl) (rfl)) ?_
              refine lv_l2i hx hb dJ24_divideMagnitude_683 rfl ?_
              refine g_topi (v := (nI ((qr + e1 0) % 4294967296))) ((ai_l2i (a := qr + e1 0) rfl).trans (nI_mod _).symm) ?_
              refine lv_istore hx hb dJ24_divideMagnitude_684 hl (by decide) rfl (fun ls hl => ?_)
              have hl : lv_has ls 28 [(17, .int (nI ((qr + e1 0) % 4294967296))), (16, .int (nI (qh - 1))), (26, .long (lN ((e1 1) * qh))), (24, .long (lN (qr * 4294967296 + g (j + 2)))), (22, .long (lN (g (j + 2)))), (0, .ref a), (1, .ref b), (2, .ref qo), (3, .int 1), (4, .int (nI sh)), (5, .int (nI m0)), (6, .ref vd), (7, .ref ro), (9, .int (nI lim)), (10, .ref vq1), (11, .int (nI (e1 0))), (12, .long (lN (e1 0))), (14, .int (nI (e1 1))), (15, .int (nI j)), (18, .int (nI sk)), (19, .int (nI (g j))), (20, .int (iI (((g j) : Nat) + (-2147483648))))] := hl
              refine lv_iload hx hb dJ24_divideMagnitude_686 (lv_at hl 0 rfl) ?_
              refine lv_i2l hx hb dJ24_divideMagnitude_688 rfl ?_
              refine lv_ldc2 (v := 4294967295) hx hb hown (hts _ q1035) dJ24_divideMagnitude_689 ?_
              refine lv_land hx hb dJ24_divideMagnitude_692 ?_
              refine g_topl (v := lN ((qr + e1 0) % 4294967296)) (mk32 (a := ((qr + e1 0) % 4294967296)) (rfl) (Nat.mod_lt _ (by decide))) ?_
              refine lv_lload hx hb dJ24_divideMagnitude_693 (lv_at hl 16 rfl) ?_
              refine W.lcmp hx hb dJ24_divideMagnitude_695 ?_
              refine lv_if_lt (tgt := 740) hx hb dJ24_divideMagnitude_696 (by decide) (fun c_696 => ?_) (fun c_696 => ?_)
              · skip
                have c_696 := (ai_clt (a := (((qr + e1 0) % 4294967296) : Nat)) (b := ((e1 0) : Nat)) (lN_lI _) (lN_lI _) (by omega) (by omega) (by omega) (by omega)).mp c_696
                have hf8 := kn_ov (nl := g (j + 2)) hQE2 (kn_c1 hc2 he10 c_696) hf1 he11
                exact cutC (qh - 1) hf1 hf4 hf8 hjl ls (lv_sub hl [5, 6, 7, 8, 9, 10, 11, 12, 13, 14, 15, 16, 17, 18, 1, 20, 21] rfl)
              · skip
                have c_696 := mt (ai_clt (a := (((qr + e1 0) % 4294967296) : Nat)) (b := ((e1 0) : Nat)) (lN_lI _) (lN_lI _) (by omega) (by omega) (by omega) (by omega)).mpr c_696
                have hrm := kn_c2 hc2 he10 c_696
                refine lv_lload hx hb dJ24_divideMagnitude_699 (lv_at hl 2 rfl) ?_
                refine lv_iload hx hb dJ24_divideMagnitude_701 (lv_at hl 17 rfl) ?_
                refine lv_i2l hx hb dJ24_divideMagnitude_703 rfl ?_
                refine lv_ldc2 (v := 4294967295) hx hb hown (hts _ q1035) dJ24_divideMagnitude_704 ?_
                refine lv_land hx hb dJ24_divideMagnitude_707 ?_
                refine g_topl (v := lN (e1 1)) (mk32 (a := (e1 1)) (rfl) (he1 _)) ?_
                refine lv_lsub hx hb dJ24_divideMagnitude_708 ?_
                refine g_topl (v := lN (((e1 1) * qh) - (e1 1))) (ai_subL (a := ((e1 1) * qh)) (b := (e1 1)) (rfl) (rfl) (hqs)) ?_
                refine lv_lstore hx hb dJ24_divideMagnitude_709 hl (by decide) rfl (fun ls hl => ?_)
                have hl : lv_has ls 28 [(26, .long (lN (((e1 1) * qh) - (e1 1)))), (17, .int (nI ((qr + e1 0) % 4294967296))), (16, .int (nI (qh - 1))), (24, .long (lN (qr * 4294967296 + g (j + 2)))), (22, .long (lN (g (j + 2)))), (0, .ref a), (1, .ref b), (2, .ref qo), (3, .int 1), (4, .int (nI sh)), (5, .int (nI m0)), (6, .ref vd), (7, .ref ro), (9, .int (nI lim)), (10, .ref vq1), (11, .int (nI (e1 0))), (12, .long (lN (e1 0))), (14, .int (nI (e1 1))), (15, .int (nI j)), (18, .int (nI sk)), (19, .int (nI (g j))), (20, .int (iI (((g j) : Nat) + (-2147483648))))] := hl
                refine lv_iload hx hb dJ24_divideMagnitude_711 (lv_at hl 1 rfl) ?_
                refine lv_i2l hx hb dJ24_divideMagnitude_713 rfl ?_
                refine lv_ldc2 (v := 4294967295) hx hb hown (hts _ q1035) dJ24_divideMagnitude_714 ?_
                refine lv_land hx hb dJ24_divideMagnitude_717 ?_
                refine g_topl (v := lN ((qr + e1 0) % 4294967296)) (mk32 (a := ((qr + e1 0) % 4294967296)) (rfl) (Nat.mod_lt _ (by decide))) ?_
                refine lv_bipush (v := 32) hx hb dJ24_divideMagnitude_718 (by decide) ?_
                refine lv_lshl hx hb dJ24_divideMagnitude_720 rfl ?_
                refine g_topl (v := lN (((qr + e1 0) % 4294967296) * 4294967296)) (lN_shl32 (a := ((qr + e1 0) % 4294967296))) ?_
                refine lv_lload hx hb dJ24_divideMagnitude_721 (lv_at hl 4 rfl) ?_
                refine lv_lor hx hb dJ24_divideMagnitude_723 ?_
                refine g_topl (v := (lN ((qr + e1 0) % 4294967296 * 4294967296 + g (j + 2)))) (lN_or hg2 (Nat.mod_lt _ (by decide))) ?_
                refine lv_lstore hx hb dJ24_divideMagnitude_724 hl (by decide) rfl (fun ls hl => ?_)
                have hl : lv_has ls 28 [(24, .long (lN ((qr + e1 0) % 4294967296 * 4294967296 + g (j + 2)))), (26, .long (lN (((e1 1) * qh) - (e1 1)))), (17, .int (nI ((qr + e1 0) % 4294967296))), (16, .int (nI (qh - 1))), (22, .long (lN (g (j + 2)))), (0, .ref a), (1, .ref b), (2, .ref qo), (3, .int 1), (4, .int (nI sh)), (5, .int (nI m0)), (6, .ref vd), (7, .ref ro), (9, .int (nI lim)), (10, .ref vq1), (11, .int (nI (e1 0))), (12, .long (lN (e1 0))), (14, .int (nI (e1 1))), (15, .int (nI j)), (18, .int (nI sk)), (19, .int (nI (g j))), (20, .int (iI (((g j) : Nat) + (-2147483648))))] := hl
                refine lv_aload_n hx hb dJ24_divideMagnitude_726 rfl (lv_at hl 5 rfl) ?_
                refine lv_lload hx hb dJ24_divideMagnitude_727 (lv_at hl 1 rfl) ?_
                refine lv_lload hx hb dJ24_divideMagnitude_729 (lv_at hl 0 rfl) ?_
                refine gcV2_iP hCF hwm hl.1 (m_uCmp l z H_20 a (e1 1 * qh - e1 1) ((qr + e1 0) % 4294967296 * 4294967296 + g (j + 2)) (Nat.lt_of_le_of_lt (Nat.sub_le _ _) (kn_u he11 hc1)) (kn_v (Nat.mod_lt _ (by decide)) hg2) ) (lw_V q1087 q1089 qs7 q85 q1090) ydv_J24_unsignedLongCompare (hO.recv hal) ⟨Nat.le_of_ble_eq_true rfl, Nat.le_of_ble_eq_true rfl⟩ ⟨by first | omega | (dsimp only; omega), by first | omega | (dsimp only; omega)⟩ (Nat.le_of_ble_eq_true rfl) dJ24_divideMagnitude_731 (fun r_30 hp => ?_)
                subst hp
                refine lv_if_eq (tgt := 740) hx hb dJ24_divideMagnitude_734 (by decide) (fun c_734 => ?_) (fun c_734 => ?_)
                · skip
                  have c_734 := gb_0.mp c_734
                  have hle2 := of_decide_eq_false c_734
                  rw [hrm] at hle2
                  have hf8 := kn_ok (nl := g (j + 2)) hQE2 (by rw [hqm]; exact Nat.le_of_not_lt hle2)
                  exact cutC (qh - 1) hf1 hf4 hf8 hjl ls (lv_sub hl [5, 6, 7, 8, 9, 10, 11, 12, 13, 14, 15, 16, 17, 18, 3, 20, 21] rfl)
                · skip
                  have c_734 := gb_n0 c_734
                  have hgt2 := of_decide_eq_true (by simpa using c_734)
                  rw [hrm] at hgt2
                  have htwo := kn_two hgt2
                  replace hf4 := kn_over hDs hXs hx0 (kn_gt (nl := g (j + 2)) hQE2 (by rw [hqm]; exact hgt2)) hDpos
                  replace hf1 : qh - 1 - 1 < 4294967296 := Nat.lt_of_le_of_lt (Nat.sub_le _ _) hf1
                  have hf8 := kn_ov (nl := g (j + 2)) (kn_e1 hQE2 (show 0 < qh - 1 by clear hDs hXs hd0 hx0 hDpos hXB hi2 hf4; omega)) (kn_rr hD2 (Nat.le_add_left _ _)) hf1 he11
                  refine lv_iinc (k := 3) (v := (nI (qh - 1 - 1))) hx hb dJ24_divideMagnitude_737 hl rfl (ai_sbn (a := qh - 1) (b := 1) rfl (show Int32.ofInt (-1) = -nI 1 by decide) (Nat.le_sub_of_add_le htwo)) (by decide) rfl (fun ls hl => ?_)
                  have hl : lv_has ls 28 [(16, .int (nI (qh - 1 - 1))), (24, .long (lN ((qr + e1 0) % 4294967296 * 4294967296 + g (j + 2)))), (26, .long (lN (((e1 1) * qh) - (e1 1)))), (17, .int (nI ((qr + e1 0) % 4294967296))), (22, .long (lN (g (j + 2)))), (0, .ref a), (1, .ref b), (2, .ref qo), (3, .int 1), (4, .int (nI sh)), (5, .int (nI m0)), (6, .ref vd), (7, .ref ro), (9, .int (nI lim)), (10, .ref vq1), (11, .int (nI (e1 0))), (12, .long (lN (e1 0))), (14, .int (nI (e1 1))), (15, .int (nI j)), (18, .int (nI sk)), (19, .int (nI (g j))), (20, .int (iI (((g j) : Nat) + (-2147483648))))] := hl
                  exact cutC (qh - 1 - 1) hf1 hf4 hf8 hjl ls (lv_sub hl [5, 6, 7, 8, 9, 10, 11, 12, 13, 14, 15, 16, 17, 18, 0, 20, 21] rfl)
        · skip
          have c_593 := (ai_eqU (a := qh) (b := 0) (rfl) (rfl) (hc1) (by omega)).mp c_593
          have hzr := kn_zero hg he1 hm2 (hc7 c_593)
          have hXz : seg g j (m0 + 1) / seg e1 0 m0 = 0 := Nat.div_eq_of_lt hzr.2.1
          have hst := kn_step (g1 := g) (q1 := q1) hj hDpos hi2 (fun i _ => rfl) (by rw [← hzr.2.2, Nat.mod_eq_of_lt hzr.2.1]) (by rw [hXz]; exact hq0 j (Nat.le_refl _) hj) (fun i _ => rfl)
          have hu4 : ∀ i, i < j + 1 → g i = 0 := fun i h => by rcases Nat.lt_or_ge i j with c | c; exact hz i c; rw [show i = j by omega]; exact hzr.1
          have hu5 : ∀ i, j + 1 ≤ i → i < lim → q1 i = 0 := fun i h1 h2 => hq0 i (by omega) h2
          refine lv_goto (tgt := 822) hx hb dJ24_divideMagnitude_596 (by decide) ?_
          refine lv_iinc (k := 13) (v := (nI (j + 1))) hx hb dJ24_divideMagnitude_822 hl rfl (ai_add (a := j) (b := 1) (rfl) (show Int32.ofInt 1 = nI 1 by decide)) (by decide) rfl (fun ls hl => ?_)
          have hl : lv_has ls 28 [(15, .int (nI (j + 1))), (0, .ref a), (1, .ref b), (2, .ref qo), (3, .int 1), (4, .int (nI sh)), (5, .int (nI m0)), (6, .ref vd), (7, .ref ro), (9, .int (nI lim)), (10, .ref vq1), (11, .int (nI (e1 0))), (12, .long (lN (e1 0))), (14, .int (nI (e1 1))), (16, .int (nI qh)), (17, .int (nI qr)), (18, .int (nI sk)), (19, .int (nI (g j))), (20, .int (iI (((g j) : Nat) + (-2147483648))))] := hl
          refine lv_goto (tgt := 423) hx hb dJ24_divideMagnitude_825 (by decide) ?_
          exact ih_cutA vd ro vr vq1 nl lim sh (j + 1) e1 g q1 he1 hD2 hDv hsh hnl hk hlim hjl hg hq1b hst.2 hst.1 hu4 hu5 hsh0 (by omega) H_20 _ hS hO hV hRo hRa hQo hQa ls (lv_sub hl [1, 2, 3, 4, 5, 6, 7, 8, 9, 10, 11, 12, 13, 0] rfl)
      refine lv_iload hx hb dJ24_divideMagnitude_423 (lv_at hl 13 rfl) ?_
      refine lv_iload hx hb dJ24_divideMagnitude_425 (lv_at hl 8 rfl) ?_
      refine lv_iconst (v := 1) hx hb dJ24_divideMagnitude_427 (by decide) ?_
      refine lv_isub hx hb dJ24_divideMagnitude_428 ?_
      refine g_topi (v := nI (lim - 1)) (ai_sub (a := lim) (b := 1) (rfl) (rfl) (by omega)) ?_
      refine lv_icmp_ge (tgt := 828) hx hb dJ24_divideMagnitude_429 (by decide) (fun c_429 => ?_) (fun c_429 => ?_)
      · skip
        have c_429 := (ai_le (a := (lim - 1)) (b := j) (rfl) (rfl) (by omega) (by omega)).mp c_429
        obtain rfl : lim = j + 1 := by omega
        exact cutL vd ro vr vq1 nl sh j e1 g q1 he1 hD2 hDv hsh hnl hk hlim (by omega) hg hq1b hi1 hi2 hz hq0 hsh0 H_20 _ hS hO hV hRo hRa hQo hQa ls (lv_sub hl [0, 1, 2, 3, 4, 5, 6, 7, 8, 9, 10, 11, 12] rfl)
      · skip
        have c_429 := mt (ai_le (a := (lim - 1)) (b := j) (rfl) (rfl) (by omega) (by omega)).mpr c_429
        have hjl : j + 1 < lim := by omega
        refine lv_iconst (v := 0) hx hb dJ24_divideMagnitude_432 (by decide) ?_
        refine lv_istore hx hb dJ24_divideMagnitude_433 hl (by decide) rfl (fun ls hl => ?_)
        have hl : lv_has ls 28 [(16, .int 0), (0, .ref a), (1, .ref b), (2, .ref qo), (3, .int 1), (4, .int (nI sh)), (5, .int (nI m0)), (6, .ref vd), (7, .ref ro), (9, .int (nI lim)), (10, .ref vq1), (11, .int (nI (e1 0))), (12, .long (lN (e1 0))), (14, .int (nI (e1 1))), (15, .int (nI j))] := hl
        refine lv_iconst (v := 0) hx hb dJ24_divideMagnitude_435 (by decide) ?_
        refine lv_istore hx hb dJ24_divideMagnitude_436 hl (by decide) rfl (fun ls hl => ?_)
        have hl : lv_has ls 28 [(17, .int 0), (16, .int 0), (0, .ref a), (1, .ref b), (2, .ref qo), (3, .int 1), (4, .int (nI sh)), (5, .int (nI m0)), (6, .ref vd), (7, .ref ro), (9, .int (nI lim)), (10, .ref vq1), (11, .int (nI (e1 0))), (12, .long (lN (e1 0))), (14, .int (nI (e1 1))), (15, .int (nI j))] := hl
        refine lv_iconst (v := 0) hx hb dJ24_divideMagnitude_438 (by decide) ?_
        refine lv_istore hx hb dJ24_divideMagnitude_439 hl (by decide) rfl (fun ls hl => ?_)
        have hl : lv_has ls 28 [(18, .int 0), (17, .int 0), (16, .int 0), (0, .ref a), (1, .ref b), (2, .ref qo), (3, .int 1), (4, .int (nI sh)), (5, .int (nI m0)), (6, .ref vd), (7, .ref ro), (9, .int (nI lim)), (10, .ref vq1), (11, .int (nI (e1 0))), (12, .long (lN (e1 0))), (14, .int (nI (e1 1))), (15, .int (nI j))] := hl
        refine lv_aload hx hb dJ24_divideMagnitude_441 (lv_at hl 10 rfl) ?_
        refine gw_get (C := RJ24) (T := TJ24) (N := 3) (v := .ref vr) hx hb hts in_J24 hown hal hRo 0 (by decide) (hts _ q979) (fun _ h9 => h9) rfl dJ24_divideMagnitude_443 ?_
        refine lv_iload hx hb dJ24_divideMagnitude_446 (lv_at hl 16 rfl) ?_
        refine lv_aload hx hb dJ24_divideMagnitude_448 (lv_at hl 10 rfl) ?_
        refine gw_get (C := RJ24) (T := TJ24) (N := 3) (v := .int 0) hx hb hts in_J24 hown hal hRo 2 (by decide) (hts _ q981) (fun _ h9 => h9) rfl dJ24_divideMagnitude_450 ?_
        refine lv_iadd hx hb dJ24_divideMagnitude_453 ?_
        refine g_topi (v := nI j) (ai_add (a := j) (b := 0) (rfl) (rfl)) ?_
        refine gw_iald hx hb hal hRa j (rfl) (by omega) (by omega) dJ24_divideMagnitude_454 ?_
        refine g_topi (v := (nI (g j))) rfl ?_
        refine lv_istore hx hb dJ24_divideMagnitude_455 hl (by decide) rfl (fun ls hl => ?_)
        have hl : lv_has ls 28 [(19, .int (nI (g j))), (18, .int 0), (17, .int 0), (16, .int 0), (0, .ref a), (1, .ref b), (2, .ref qo), (3, .int 1), (4, .int (nI sh)), (5, .int (nI m0)), (6, .ref vd), (7, .ref ro), (9, .int (nI lim)), (10, .ref vq1), (11, .int (nI (e1 0))), (12, .long (lN (e1 0))), (14, .int (nI (e1 1))), (15, .int (nI j))] := hl
        refine lv_iload hx hb dJ24_divideMagnitude_457 (lv_at hl 0 rfl) ?_
        refine lv_ldc (v := -2147483648) hx hb hown (hts _ q1012) dJ24_divideMagnitude_459 ?_
        refine lv_iadd hx hb dJ24_divideMagnitude_461 ?_
        refine g_topi (v := iI (((g j) : Nat) + (-2147483648))) (ai_addI (a := ((g j) : Nat)) (b := (-2147483648)) (nI_iI _) (by decide)) ?_
        refine lv_istore hx hb dJ24_divideMagnitude_462 hl (by decide) rfl (fun ls hl => ?_)
        have hl : lv_has ls 28 [(20, .int (iI (((g j) : Nat) + (-2147483648)))), (19, .int (nI (g j))), (18, .int 0), (17, .int 0), (16, .int 0), (0, .ref a), (1, .ref b), (2, .ref qo), (3, .int 1), (4, .int (nI sh)), (5, .int (nI m0)), (6, .ref vd), (7, .ref ro), (9, .int (nI lim)), (10, .ref vq1), (11, .int (nI (e1 0))), (12, .long (lN (e1 0))), (14, .int (nI (e1 1))), (15, .int (nI j))] := hl
        refine lv_aload hx hb dJ24_divideMagnitude_464 (lv_at hl 12 rfl) ?_
        refine gw_get (C := RJ24) (T := TJ24) (N := 3) (v := .ref vr) hx hb hts in_J24 hown hal hRo 0 (by decide) (hts _ q979) (fun _ h9 => h9) rfl dJ24_divideMagnitude_466 ?_
        refine lv_iload hx hb dJ24_divideMagnitude_469 (lv_at hl 18 rfl) ?_
        refine lv_iconst (v := 1) hx hb dJ24_divideMagnitude_471 (by decide) ?_
        refine lv_iadd hx hb dJ24_divideMagnitude_472 ?_
        refine g_topi (v := nI (j + 1)) (ai_add (a := j) (b := 1) (rfl) (rfl)) ?_
        refine lv_aload hx hb dJ24_divideMagnitude_473 (lv_at hl 12 rfl) ?_
        refine gw_get (C := RJ24) (T := TJ24) (N := 3) (v := .int 0) hx hb hts in_J24 hown hal hRo 2 (by decide) (hts _ q981) (fun _ h9 => h9) rfl dJ24_divideMagnitude_475 ?_
        refine lv_iadd hx hb dJ24_divideMagnitude_478 ?_
        refine g_topi (v := nI (j + 1)) (ai_add (a := (j + 1)) (b := 0) (rfl) (rfl)) ?_
        refine gw_iald hx hb hal hRa (j + 1) (rfl) (by omega) (by omega) dJ24_divideMagnitude_479 ?_
        refine g_topi (v := (nI (g (j + 1)))) rfl ?_
        refine lv_istore hx hb dJ24_divideMagnitude_480 hl (by decide) rfl (fun ls hl => ?_)
        have hl : lv_has ls 28 [(21, .int (nI (g (j + 1)))), (20, .int (iI (((g j) : Nat) + (-2147483648)))), (19, .int (nI (g j))), (18, .int 0), (17, .int 0), (16, .int 0), (0, .ref a), (1, .ref b), (2, .ref qo), (3, .int 1), (4, .int (nI sh)), (5, .int (nI m0)), (6, .ref vd), (7, .ref ro), (9, .int (nI lim)), (10, .ref vq1), (11, .int (nI (e1 0))), (12, .long (lN (e1 0))), (14, .int (nI (e1 1))), (15, .int (nI j))] := hl
        refine lv_iload hx hb dJ24_divideMagnitude_482 (lv_at hl 2 rfl) ?_
        refine lv_iload hx hb dJ24_divideMagnitude_484 (lv_at hl 16 rfl) ?_
        refine lv_icmp_ne (tgt := 519) hx hb dJ24_divideMagnitude_486 (by decide) (fun c_486 => ?_) (fun c_486 => ?_)
        · skip
          have c_486 := mt (ai_eqU (a := (g j)) (b := (e1 0)) (rfl) (rfl) (hg _) (he1 _)).mpr c_486
          have hnh2 : g j < e1 0 := by omega
          have hq9 := dow_q hnh2 hg1
          have hq8 := Nat.div_add_mod (g j * 4294967296 + g (j + 1)) (e1 0)
          have hq7 := Nat.mod_lt (g j * 4294967296 + g (j + 1)) (show 0 < e1 0 by omega)
          have hb1 : (g j * 4294967296 + g (j + 1)) / e1 0 < 4294967296 := hq9
          have hb2 : (g j * 4294967296 + g (j + 1)) % e1 0 < 4294967296 := Nat.lt_trans hq7 he10
          have hb4 := kn_b hDs hXs hx0 hg2 (show 0 < e1 0 by omega) hDpos
          have hb5 : 0 = 0 → (g j * 4294967296 + g (j + 1)) / e1 0 * e1 0 + (g j * 4294967296 + g (j + 1)) % e1 0 = (g j * 4294967296 + g (j + 1)) := fun _ => by rw [Nat.mul_comm]; exact hq8
          have hb6 : 0 = 1 → (g j * 4294967296 + g (j + 1)) / e1 0 * (e1 0 * 4294967296 + e1 1) ≤ ((g j * 4294967296 + g (j + 1)) * 4294967296 + g (j + 2)) := fun q => by cases q
          have hb7 : (g j * 4294967296 + g (j + 1)) / e1 0 = 0 → (g j * 4294967296 + g (j + 1)) < e1 0 := fun q => by rw [q, Nat.mul_zero] at hq8; omega
          refine lv_iload hx hb dJ24_divideMagnitude_519 (lv_at hl 2 rfl) ?_
          refine lv_i2l hx hb dJ24_divideMagnitude_521 rfl ?_
          refine lv_bipush (v := 32) hx hb dJ24_divideMagnitude_522 (by decide) ?_
          refine lv_lshl hx hb dJ24_divideMagnitude_524 rfl ?_
          refine g_topl (v := (lN (g j * 4294967296))) (i2l_shl hg0) ?_
          refine lv_iload hx hb dJ24_divideMagnitude_525 (lv_at hl 0 rfl) ?_
          refine lv_i2l hx hb dJ24_divideMagnitude_527 rfl ?_
          refine lv_ldc2 (v := 4294967295) hx hb hown (hts _ q1035) dJ24_divideMagnitude_528 ?_
          refine lv_land hx hb dJ24_divideMagnitude_531 ?_
          refine g_topl (v := lN (g (j + 1))) (mk32 (a := (g (j + 1))) (rfl) (hg _)) ?_
          refine lv_lor hx hb dJ24_divideMagnitude_532 ?_
          refine g_topl (v := (lN (g j * 4294967296 + g (j + 1)))) (lN_or hg1 hg0) ?_
          refine lv_lstore hx hb dJ24_divideMagnitude_533 hl (by decide) rfl (fun ls hl => ?_)
          have hl : lv_has ls 28 [(22, .long (lN (g j * 4294967296 + g (j + 1)))), (21, .int (nI (g (j + 1)))), (20, .int (iI (((g j) : Nat) + (-2147483648)))), (19, .int (nI (g j))), (18, .int 0), (17, .int 0), (16, .int 0), (0, .ref a), (1, .ref b), (2, .ref qo), (3, .int 1), (4, .int (nI sh)), (5, .int (nI m0)), (6, .ref vd), (7, .ref ro), (9, .int (nI lim)), (10, .ref vq1), (11, .int (nI (e1 0))), (12, .long (lN (e1 0))), (14, .int (nI (e1 1))), (15, .int (nI j))] := hl
          refine lv_lload hx hb dJ24_divideMagnitude_535 (lv_at hl 0 rfl) ?_
          refine lv_lconst (v := 0) hx hb dJ24_divideMagnitude_537 (by decide) ?_
          refine W.lcmp hx hb dJ24_divideMagnitude_538 ?_
          refine lv_if_lt (tgt := 565) hx hb dJ24_divideMagnitude_539 (by decide) (fun c_539 => ?_) (fun c_539 => ?_)
          · skip
            have c_539 := (lN_neg0 (by omega)).mp c_539
            refine lv_lload hx hb dJ24_divideMagnitude_565 (lv_at hl 0 rfl) ?_
            refine lv_iload hx hb dJ24_divideMagnitude_567 (lv_at hl 17 rfl) ?_
            refine gcS2_lP hCF hwm hl.1 (m_divWord l z H_20  (g j * 4294967296 + g (j + 1)) (e1 0) hD2 he10 (by omega) hq9 ) (lw_S q1037 q1038 q85 q1039) yd_J24_divWord ⟨Nat.le_of_ble_eq_true rfl, Nat.le_of_ble_eq_true rfl⟩ ⟨by first | omega | (dsimp only; omega), by first | omega | (dsimp only; omega)⟩ (Nat.le_of_ble_eq_true rfl) dJ24_divideMagnitude_569 (fun r_31 hp => ?_)
            subst hp
            refine lv_lstore hx hb dJ24_divideMagnitude_572 hl (by decide) rfl (fun ls hl => ?_)
            have hl : lv_has ls 28 [(24, .long (lN ((g j * 4294967296 + g (j + 1)) % e1 0 * 4294967296 + (g j * 4294967296 + g (j + 1)) / e1 0))), (22, .long (lN (g j * 4294967296 + g (j + 1)))), (21, .int (nI (g (j + 1)))), (20, .int (iI (((g j) : Nat) + (-2147483648)))), (19, .int (nI (g j))), (18, .int 0), (17, .int 0), (16, .int 0), (0, .ref a), (1, .ref b), (2, .ref qo), (3, .int 1), (4, .int (nI sh)), (5, .int (nI m0)), (6, .ref vd), (7, .ref ro), (9, .int (nI lim)), (10, .ref vq1), (11, .int (nI (e1 0))), (12, .long (lN (e1 0))), (14, .int (nI (e1 1))), (15, .int (nI j))] := hl
            refine lv_lload hx hb dJ24_divideMagnitude_574 (lv_at hl 0 rfl) ?_
            refine lv_ldc2 (v := 4294967295) hx hb hown (hts _ q1035) dJ24_divideMagnitude_576 ?_
            refine lv_land hx hb dJ24_divideMagnitude_579 ?_
            refine g_topl (v := lN (((g j * 4294967296 + g (j + 1)) % e1 0 * 4294967296 + (g j * 4294967296 + g (j + 1)) / e1 0) % 4294967296)) (lN_and _) ?_
            refine lv_l2i hx hb dJ24_divideMagnitude_580 rfl ?_
            refine g_topi (v := (nI ((g j * 4294967296 + g (j + 1)) / e1 0))) ((ai_l2i (a := ((g j * 4294967296 + g (j + 1)) % e1 0 * 4294967296 + (g j * 4294967296 + g (j + 1)) / e1 0) % 4294967296) rfl).trans (congrArg nI (kn_lo hq9))) ?_
            refine lv_istore hx hb dJ24_divideMagnitude_581 hl (by decide) rfl (fun ls hl => ?_)
            have hl : lv_has ls 28 [(16, .int (nI ((g j * 4294967296 + g (j + 1)) / e1 0))), (24, .long (lN ((g j * 4294967296 + g (j + 1)) % e1 0 * 4294967296 + (g j * 4294967296 + g (j + 1)) / e1 0))), (22, .long (lN (g j * 4294967296 + g (j + 1)))), (21, .int (nI (g (j + 1)))), (20, .int (iI (((g j) : Nat) + (-2147483648)))), (19, .int (nI (g j))), (18, .int 0), (17, .int 0), (0, .ref a), (1, .ref b), (2, .ref qo), (3, .int 1), (4, .int (nI sh)), (5, .int (nI m0)), (6, .ref vd), (7, .ref ro), (9, .int (nI lim)), (10, .ref vq1), (11, .int (nI (e1 0))), (12, .long (lN (e1 0))), (14, .int (nI (e1 1))), (15, .int (nI j))] := hl
            refine lv_lload hx hb dJ24_divideMagnitude_583 (lv_at hl 1 rfl) ?_
            refine lv_bipush (v := 32) hx hb dJ24_divideMagnitude_585 (by decide) ?_
            refine lv_lushr hx hb dJ24_divideMagnitude_587 rfl ?_
            refine g_topl (v := lN (((g j * 4294967296 + g (j + 1)) % e1 0 * 4294967296 + (g j * 4294967296 + g (j + 1)) / e1 0) / 4294967296)) (lN_shr32 (a := ((g j * 4294967296 + g (j + 1)) % e1 0 * 4294967296 + (g j * 4294967296 + g (j + 1)) / e1 0)) (kn_v hb2 hq9)) ?_
            refine lv_l2i hx hb dJ24_divideMagnitude_588 rfl ?_
            refine g_topi (v := (nI ((g j * 4294967296 + g (j + 1)) % e1 0))) ((ai_l2i (a := ((g j * 4294967296 + g (j + 1)) % e1 0 * 4294967296 + (g j * 4294967296 + g (j + 1)) / e1 0) / 4294967296) rfl).trans (congrArg nI (kn_hi hq9))) ?_
            refine lv_istore hx hb dJ24_divideMagnitude_589 hl (by decide) rfl (fun ls hl => ?_)
            have hl : lv_has ls 28 [(17, .int (nI ((g j * 4294967296 + g (j + 1)) % e1 0))), (16, .int (nI ((g j * 4294967296 + g (j + 1)) / e1 0))), (24, .long (lN ((g j * 4294967296 + g (j + 1)) % e1 0 * 4294967296 + (g j * 4294967296 + g (j + 1)) / e1 0))), (22, .long (lN (g j * 4294967296 + g (j + 1)))), (21, .int (nI (g (j + 1)))), (20, .int (iI (((g j) : Nat) + (-2147483648)))), (19, .int (nI (g j))), (18, .int 0), (0, .ref a), (1, .ref b), (2, .ref qo), (3, .int 1), (4, .int (nI sh)), (5, .int (nI m0)), (6, .ref vd), (7, .ref ro), (9, .int (nI lim)), (10, .ref vq1), (11, .int (nI (e1 0))), (12, .long (lN (e1 0))), (14, .int (nI (e1 1))), (15, .int (nI j))] := hl
            exact cutB ((g j * 4294967296 + g (j + 1)) / e1 0) ((g j * 4294967296 + g (j + 1)) % e1 0) 0 hb1 hb2 (by decide) hb4 hb5 hb6 hb7 hjl ls (lv_sub hl [8, 9, 10, 11, 12, 13, 14, 15, 16, 17, 18, 19, 20, 21, 1, 0, 7, 6, 5] rfl)
          · skip
            have c_539 := mt (lN_neg0 (by omega)).mpr c_539
            refine lv_lload hx hb dJ24_divideMagnitude_542 (lv_at hl 0 rfl) ?_
            refine lv_lload hx hb dJ24_divideMagnitude_544 (lv_at hl 18 rfl) ?_
            refine lv_ldiv hx hb dJ24_divideMagnitude_546 (lN_ne0 (by omega) (by omega)) ?_
            refine g_topl (v := (lN ((g j * 4294967296 + g (j + 1)) / e1 0))) (lN_div (by omega) (by omega) (by omega)) ?_
            refine lv_l2i hx hb dJ24_divideMagnitude_547 rfl ?_
            refine g_topi (v := nI ((g j * 4294967296 + g (j + 1)) / e1 0)) (ai_l2i (rfl)) ?_
            refine lv_istore hx hb dJ24_divideMagnitude_548 hl (by decide) rfl (fun ls hl => ?_)
            have hl : lv_has ls 28 [(16, .int (nI ((g j * 4294967296 + g (j + 1)) / e1 0))), (22, .long (lN (g j * 4294967296 + g (j + 1)))), (21, .int (nI (g (j + 1)))), (20, .int (iI (((g j) : Nat) + (-2147483648)))), (19, .int (nI (g j))), (18, .int 0), (17, .int 0), (0, .ref a), (1, .ref b), (2, .ref qo), (3, .int 1), (4, .int (nI sh)), (5, .int (nI m0)), (6, .ref vd), (7, .ref ro), (9, .int (nI lim)), (10, .ref vq1), (11, .int (nI (e1 0))), (12, .long (lN (e1 0))), (14, .int (nI (e1 1))), (15, .int (nI j))] := hl
            refine lv_lload hx hb dJ24_divideMagnitude_550 (lv_at hl 1 rfl) ?_
            refine lv_iload hx hb dJ24_divideMagnitude_552 (lv_at hl 0 rfl) ?_
            refine lv_i2l hx hb dJ24_divideMagnitude_554 rfl ?_
            refine lv_lload hx hb dJ24_divideMagnitude_555 (lv_at hl 18 rfl) ?_
            refine lv_lmul hx hb dJ24_divideMagnitude_557 ?_
            refine lv_lsub hx hb dJ24_divideMagnitude_558 ?_
            refine lv_l2i hx hb dJ24_divideMagnitude_559 rfl ?_
            refine g_topi (v := (nI ((g j * 4294967296 + g (j + 1)) % e1 0))) ((l2i_sx (Nat.div_mul_le_self _ _) hq9).trans (congrArg nI kn_md)) ?_
            refine lv_istore hx hb dJ24_divideMagnitude_560 hl (by decide) rfl (fun ls hl => ?_)
            have hl : lv_has ls 28 [(17, .int (nI ((g j * 4294967296 + g (j + 1)) % e1 0))), (16, .int (nI ((g j * 4294967296 + g (j + 1)) / e1 0))), (22, .long (lN (g j * 4294967296 + g (j + 1)))), (21, .int (nI (g (j + 1)))), (20, .int (iI (((g j) : Nat) + (-2147483648)))), (19, .int (nI (g j))), (18, .int 0), (0, .ref a), (1, .ref b), (2, .ref qo), (3, .int 1), (4, .int (nI sh)), (5, .int (nI m0)), (6, .ref vd), (7, .ref ro), (9, .int (nI lim)), (10, .ref vq1), (11, .int (nI (e1 0))), (12, .long (lN (e1 0))), (14, .int (nI (e1 1))), (15, .int (nI j))] := hl
            refine lv_goto (tgt := 591) hx hb dJ24_divideMagnitude_562 (by decide) ?_
            exact cutB ((g j * 4294967296 + g (j + 1)) / e1 0) ((g j * 4294967296 + g (j + 1)) % e1 0) 0 hb1 hb2 (by decide) hb4 hb5 hb6 hb7 hjl ls (lv_sub hl [7, 8, 9, 10, 11, 12, 13, 14, 15, 16, 17, 18, 19, 20, 1, 0, 6, 5, 4] rfl)
        · skip
          have c_486 := (ai_eqU (a := (g j)) (b := (e1 0)) (rfl) (rfl) (hg _) (he1 _)).mp c_486
          have hnh2 : g j = e1 0 := by omega
          refine lv_iconst (v := -1) hx hb dJ24_divideMagnitude_489 (by decide) ?_
          refine lv_istore hx hb dJ24_divideMagnitude_490 hl (by decide) rfl (fun ls hl => ?_)
          have hl : lv_has ls 28 [(16, .int (-1)), (21, .int (nI (g (j + 1)))), (20, .int (iI (((g j) : Nat) + (-2147483648)))), (19, .int (nI (g j))), (18, .int 0), (17, .int 0), (0, .ref a), (1, .ref b), (2, .ref qo), (3, .int 1), (4, .int (nI sh)), (5, .int (nI m0)), (6, .ref vd), (7, .ref ro), (9, .int (nI lim)), (10, .ref vq1), (11, .int (nI (e1 0))), (12, .long (lN (e1 0))), (14, .int (nI (e1 1))), (15, .int (nI j))] := hl
          replace hl : lv_has ls 28 [(16, .int (nI 4294967295)), (21, .int (nI (g (j + 1)))), (20, .int (iI (((g j) : Nat) + (-2147483648)))), (19, .int (nI (g j))), (18, .int 0), (17, .int 0), (0, .ref a), (1, .ref b), (2, .ref qo), (3, .int 1), (4, .int (nI sh)), (5, .int (nI m0)), (6, .ref vd), (7, .ref ro), (9, .int (nI lim)), (10, .ref vq1), (11, .int (nI (e1 0))), (12, .long (lN (e1 0))), (14, .int (nI (e1 1))), (15, .int (nI j))] := by
            rw [show nI 4294967295 = -1 by decide]
            exact hl
          refine lv_iload hx hb dJ24_divideMagnitude_492 (lv_at hl 3 rfl) ?_
          refine lv_iload hx hb dJ24_divideMagnitude_494 (lv_at hl 1 rfl) ?_
          refine lv_iadd hx hb dJ24_divideMagnitude_496 ?_
          refine g_topi (v := (nI ((g j + g (j + 1)) % 4294967296))) (by rw [nI_mod, nI_add]) ?_
          refine lv_istore hx hb dJ24_divideMagnitude_497 hl (by decide) rfl (fun ls hl => ?_)
          have hl : lv_has ls 28 [(17, .int (nI ((g j + g (j + 1)) % 4294967296))), (16, .int (nI 4294967295)), (21, .int (nI (g (j + 1)))), (20, .int (iI (((g j) : Nat) + (-2147483648)))), (19, .int (nI (g j))), (18, .int 0), (0, .ref a), (1, .ref b), (2, .ref qo), (3, .int 1), (4, .int (nI sh)), (5, .int (nI m0)), (6, .ref vd), (7, .ref ro), (9, .int (nI lim)), (10, .ref vq1), (11, .int (nI (e1 0))), (12, .long (lN (e1 0))), (14, .int (nI (e1 1))), (15, .int (nI j))] := hl
          refine lv_iload hx hb dJ24_divideMagnitude_499 (lv_at hl 0 rfl) ?_
          refine lv_ldc (v := -2147483648) hx hb hown (hts _ q1012) dJ24_divideMagnitude_501 ?_
          refine lv_iadd hx hb dJ24_divideMagnitude_503 ?_
          refine g_topi (v := iI ((((g j + g (j + 1)) % 4294967296) : Nat) + (-2147483648))) (ai_addI (a := (((g j + g (j + 1)) % 4294967296) : Nat)) (b := (-2147483648)) (nI_iI _) (by decide)) ?_
          refine lv_iload hx hb dJ24_divideMagnitude_504 (lv_at hl 3 rfl) ?_
          refine lv_icmp_ge (tgt := 513) hx hb dJ24_divideMagnitude_506 (by decide) (fun c_506 => ?_) (fun c_506 => ?_)
          · skip
            have c_506 := (ai_leI (a := (((g j) : Nat) + (-2147483648))) (b := ((((g j + g (j + 1)) % 4294967296) : Nat) + (-2147483648))) (rfl) (rfl) (by omega) (by omega) (by omega) (by omega)).mp c_506
            have hb1 : 4294967295 < 4294967296 := by decide
            have hb2 : (g j + g (j + 1)) % 4294967296 < 4294967296 := Nat.mod_lt _ (by decide)
            have hb4 := kn_a hXB hDpos
            have hb5 : 0 = 0 → 4294967295 * e1 0 + (g j + g (j + 1)) % 4294967296 = (g j * 4294967296 + g (j + 1)) := fun _ => by omega
            have hb6 : 0 = 1 → 4294967295 * (e1 0 * 4294967296 + e1 1) ≤ ((g j * 4294967296 + g (j + 1)) * 4294967296 + g (j + 2)) := fun q => by cases q
            have hb7 : 4294967295 = 0 → (g j * 4294967296 + g (j + 1)) < e1 0 := fun q => by cases q
            refine lv_iconst (v := 0) hx hb dJ24_divideMagnitude_513 (by decide) ?_
            refine lv_istore hx hb dJ24_divideMagnitude_514 hl (by decide) rfl (fun ls hl => ?_)
            have hl : lv_has ls 28 [(18, .int 0), (17, .int (nI ((g j + g (j + 1)) % 4294967296))), (16, .int (nI 4294967295)), (21, .int (nI (g (j + 1)))), (20, .int (iI (((g j) : Nat) + (-2147483648)))), (19, .int (nI (g j))), (0, .ref a), (1, .ref b), (2, .ref qo), (3, .int 1), (4, .int (nI sh)), (5, .int (nI m0)), (6, .ref vd), (7, .ref ro), (9, .int (nI lim)), (10, .ref vq1), (11, .int (nI (e1 0))), (12, .long (lN (e1 0))), (14, .int (nI (e1 1))), (15, .int (nI j))] := hl
            refine lv_goto (tgt := 591) hx hb dJ24_divideMagnitude_516 (by decide) ?_
            exact cutB 4294967295 ((g j + g (j + 1)) % 4294967296) 0 hb1 hb2 (by decide) hb4 hb5 hb6 hb7 hjl ls (lv_sub hl [6, 7, 8, 9, 10, 11, 12, 13, 14, 15, 16, 17, 18, 19, 2, 1, 0, 5, 4] rfl)
          · skip
            have c_506 := mt (ai_leI (a := (((g j) : Nat) + (-2147483648))) (b := ((((g j + g (j + 1)) % 4294967296) : Nat) + (-2147483648))) (rfl) (rfl) (by omega) (by omega) (by omega) (by omega)).mpr c_506
            have hb1 : 4294967295 < 4294967296 := by decide
            have hb2 : (g j + g (j + 1)) % 4294967296 < 4294967296 := Nat.mod_lt _ (by decide)
            have hb4 := kn_a hXB hDpos
            have hb5 : 1 = 0 → 4294967295 * e1 0 + (g j + g (j + 1)) % 4294967296 = (g j * 4294967296 + g (j + 1)) := fun q => by cases q
            have hb6 : 1 = 1 → 4294967295 * (e1 0 * 4294967296 + e1 1) ≤ ((g j * 4294967296 + g (j + 1)) * 4294967296 + g (j + 2)) := fun _ => kn_ov (r := g j + g (j + 1)) (by omega) (by omega) (by decide) he11
            have hb7 : 4294967295 = 0 → (g j * 4294967296 + g (j + 1)) < e1 0 := fun q => by cases q
            refine lv_iconst (v := 1) hx hb dJ24_divideMagnitude_509 (by decide) ?_
            refine lv_goto (tgt := 514) hx hb dJ24_divideMagnitude_510 (by decide) ?_
            refine lv_istore hx hb dJ24_divideMagnitude_514 hl (by decide) rfl (fun ls hl => ?_)
            have hl : lv_has ls 28 [(18, .int 1), (17, .int (nI ((g j + g (j + 1)) % 4294967296))), (16, .int (nI 4294967295)), (21, .int (nI (g (j + 1)))), (20, .int (iI (((g j) : Nat) + (-2147483648)))), (19, .int (nI (g j))), (0, .ref a), (1, .ref b), (2, .ref qo), (3, .int 1), (4, .int (nI sh)), (5, .int (nI m0)), (6, .ref vd), (7, .ref ro), (9, .int (nI lim)), (10, .ref vq1), (11, .int (nI (e1 0))), (12, .long (lN (e1 0))), (14, .int (nI (e1 1))), (15, .int (nI j))] := hl
            refine lv_goto (tgt := 591) hx hb dJ24_divideMagnitude_516 (by decide) ?_
            exact cutB 4294967295 ((g j + g (j + 1)) % 4294967296) 1 hb1 hb2 (by decide) hb4 hb5 hb6 hb7 hjl ls (lv_sub hl [6, 7, 8, 9, 10, 11, 12, 13, 14, 15, 16, 17, 18, 19, 2, 1, 0, 5, 4] rfl)
  have cutS : ∀ (vd ro vr nl sh : Nat) (e1 g : Nat → Nat), (H0.size ≤ ro ∧ H0.size ≤ vr ∧ H0.size ≤ vd ∧ vr ≠ vd ∧ vr ≠ ro ∧ vd ≠ ro) → (n ≤ nl) → (nl ≤ n + 1) → (∀ i, e1 i < 4294967296) → (∀ i, g i < 4294967296) → (2147483648 ≤ e1 0) → (seg e1 0 m0 = seg ee 0 m0 * 2 ^ sh) → (sh < 32) → (seg g 1 nl = seg d 0 n * 2 ^ sh) → (0 < sh ∧ sh < 32) → ∀ (H_32 : Heap) (locs : List Loc), va_S (fun q => q = qo ∨ q = vq ∨ H0.size ≤ q) H0 H_32 locs → gO z wa RJ24 TJ24 3 H_32 a [.ref va, .int (nI n), .int 0] → gI z true .int H_32 vd m0 (dI e1) → gO z true RJ24 TJ24 3 H_32 ro [.ref vr, .int (nI nl), .int 1] → gI z true .int H_32 vr (nl + 1) (dI g) → gO z true RJ24 TJ24 3 H_32 qo [.ref vq, .int 0, .int 0] → gI z true .int H_32 vq 1 (dI (fun _ => 0)) → ∀ (ls : Array Slot), lv_has ls 28 [(0, .ref a), (1, .ref b), (2, .ref qo), (3, .int 1), (4, .int (nI sh)), (5, .int (nI m0)), (6, .ref vd), (7, .ref ro)] → W p l e { frames := 3, cells := 4, slots := (2 * n + 7), locals := 65 } s m [.ref a, .ref b, .ref qo, .int 1].toArray below meth c H_32 locs 3 (m0 + n + 5) (MQ below (gRr (fun q => q = qo ∨ q = vq ∨ H0.size ≤ q) H0 (fun r H1 => H0.size ≤ r ∧ ∃ v1 v2, v1 ≠ v2 ∧ (v1 = vq ∨ H0.size ≤ v1) ∧ v1 ≠ qo ∧ H0.size ≤ v2 ∧ v1 ≠ r ∧ v2 ≠ r ∧ mV z H1 qo v1 (n + 2) (seg d 0 n / seg ee 0 m0) ∧ mV z H1 r v2 (n + 2) (seg d 0 n % seg ee 0 m0))) [.ref a, .ref b, .ref qo, .int 1].toArray s 4 (2 * n + 7) (fun q => q = qo ∨ q = vq ∨ H0.size ≤ q)) (F0 m 323 ls []) := by
    intro vd ro vr nl sh e1 g hk3 hnl1 hnl2 he1 hg hD2 hDv hsh hRv hsh0 H_32 locs hS hO hV hRo hRa hQo hQa ls hl
    have he10 := he1 0
    have he11 := he1 1
    refine lv_aload hx hb dJ24_divideMagnitude_323 (lv_at hl 7 rfl) ?_
    refine gw_get (C := RJ24) (T := TJ24) (N := 3) (v := .int (nI nl)) hx hb hts in_J24 hown hal hRo 1 (by decide) (hts _ q980) (fun _ h9 => h9) rfl dJ24_divideMagnitude_325 ?_
    refine lv_istore hx hb dJ24_divideMagnitude_328 hl (by decide) rfl (fun ls hl => ?_)
    have hl : lv_has ls 28 [(8, .int (nI nl)), (0, .ref a), (1, .ref b), (2, .ref qo), (3, .int 1), (4, .int (nI sh)), (5, .int (nI m0)), (6, .ref vd), (7, .ref ro)] := hl
    refine lv_iload hx hb dJ24_divideMagnitude_330 (lv_at hl 0 rfl) ?_
    refine lv_iload hx hb dJ24_divideMagnitude_332 (lv_at hl 6 rfl) ?_
    refine lv_isub hx hb dJ24_divideMagnitude_334 ?_
    refine g_topi (v := nI (nl - m0)) (ai_sub (a := nl) (b := m0) (rfl) (rfl) (by omega)) ?_
    refine lv_iconst (v := 1) hx hb dJ24_divideMagnitude_335 (by decide) ?_
    refine lv_iadd hx hb dJ24_divideMagnitude_336 ?_
    refine g_topi (v := nI ((nl - m0) + 1)) (ai_add (a := (nl - m0)) (b := 1) (rfl) (rfl)) ?_
    obtain ⟨lim, hlim⟩ : ∃ lim : Nat, lim = ((nl - m0) + 1) := ⟨_, rfl⟩
    refine g_topi (v := nI lim) (by rw [hlim]) ?_
    refine lv_istore hx hb dJ24_divideMagnitude_337 hl (by decide) rfl (fun ls hl => ?_)
    have hl : lv_has ls 28 [(9, .int (nI lim)), (8, .int (nI nl)), (0, .ref a), (1, .ref b), (2, .ref qo), (3, .int 1), (4, .int (nI sh)), (5, .int (nI m0)), (6, .ref vd), (7, .ref ro)] := hl
    refine lv_aload_n hx hb dJ24_divideMagnitude_339 rfl (lv_at hl 4 rfl) ?_
    refine gw_get (C := RJ24) (T := TJ24) (N := 3) (v := .ref vq) hx hb hts in_J24 hown hal hQo 0 (by decide) (hts _ q979) (fun _ h9 => h9) rfl dJ24_divideMagnitude_340 ?_
    refine gw_len hx hb hal hQa dJ24_divideMagnitude_343 ?_
    refine lv_iload hx hb dJ24_divideMagnitude_344 (lv_at hl 0 rfl) ?_
    refine lv_icmp_ge (tgt := 362) hx hb dJ24_divideMagnitude_346 (by decide) (fun c_346 => ?_) (fun c_346 => ?_)
    · skip
      have c_346 := (ai_le (a := lim) (b := 1) (rfl) (rfl) (by omega) (by omega)).mp c_346
      have hl1 : lim = 1 := by omega
      replace hQa : gI z true .int H_32 vq lim (dI (fun _ => 0)) := by rw [hl1]; exact hQa
      refine lv_aload_n hx hb dJ24_divideMagnitude_362 rfl (lv_at hl 4 rfl) ?_
      refine lv_iload hx hb dJ24_divideMagnitude_363 (lv_at hl 0 rfl) ?_
      refine gw_put (C := RJ24) (T := TJ24) (N := 3) (ty := .int) (v := .int (nI lim)) hx hb hts in_J24 tyJ24 tyJ24_ok nmJ24 (hts _ q974) hown hal hQo hS (by have hsz := hS.1; (try dsimp only [gfr]) <;> omega) 1 (by decide) (hts _ q980) (fun _ h9 => h9) rfl (by decide +kernel) (rfl) (rfl) (Nat.le_of_ble_eq_true rfl) dJ24_divideMagnitude_365 (fun H_33 locs h_new hch hS => ?_)
      have hO := hO.ch hch (by omega)
      have hV := hV.ch hch (by omega)
      have hRo := hRo.ch hch (by omega)
      have hRa := hRa.ch hch (by omega)
      have hQa := hQa.ch hch (by omega)
      have sz_H_33 := hch.1
      clear hch
      have hQo : gO z true RJ24 TJ24 3 H_33 qo [.ref vq, .int (nI lim), .int 0] := h_new
      refine lv_aload_n hx hb dJ24_divideMagnitude_368 rfl (lv_at hl 4 rfl) ?_
      refine gw_get (C := RJ24) (T := TJ24) (N := 3) (v := .ref vq) hx hb hts in_J24 hown hal hQo 0 (by decide) (hts _ q979) (fun _ h9 => h9) rfl dJ24_divideMagnitude_369 ?_
      refine lv_astore hx hb dJ24_divideMagnitude_372 hl (by decide) rfl (fun ls hl => ?_)
      have hl : lv_has ls 28 [(10, .ref vq), (9, .int (nI lim)), (8, .int (nI nl)), (0, .ref a), (1, .ref b), (2, .ref qo), (3, .int 1), (4, .int (nI sh)), (5, .int (nI m0)), (6, .ref vd), (7, .ref ro)] := hl
      refine lv_aload hx hb dJ24_divideMagnitude_374 (lv_at hl 10 rfl) ?_
      refine lv_iconst (v := 0) hx hb dJ24_divideMagnitude_376 (by decide) ?_
      refine gw_put (C := RJ24) (T := TJ24) (N := 3) (ty := .int) (v := .int 0) hx hb hts in_J24 tyJ24 tyJ24_ok nmJ24 (hts _ q974) hown hal hRo hS (by have hsz := hS.1; (try dsimp only [gfr]) <;> omega) 2 (by decide) (hts _ q981) (fun _ h9 => h9) rfl (by decide +kernel) (rfl) (rfl) (Nat.le_of_ble_eq_true rfl) dJ24_divideMagnitude_377 (fun H_34 locs h_new hch hS => ?_)
      have hO := hO.ch hch (by omega)
      have hV := hV.ch hch (by omega)
      have hRa := hRa.ch hch (by omega)
      have hQo := hQo.ch hch (by omega)
      have hQa := hQa.ch hch (by omega)
      have sz_H_34 := hch.1
      clear hch
      have hRo : gO z true RJ24 TJ24 3 H_34 ro [.ref vr, .int (nI nl), .int 0] := h_new
      refine lv_aload hx hb dJ24_divideMagnitude_380 (lv_at hl 10 rfl) ?_
      refine gw_get (C := RJ24) (T := TJ24) (N := 3) (v := .ref vr) hx hb hts in_J24 hown hal hRo 0 (by decide) (hts _ q979) (fun _ h9 => h9) rfl dJ24_divideMagnitude_382 ?_
      refine lv_iconst (v := 0) hx hb dJ24_divideMagnitude_385 (by decide) ?_
      refine lv_iconst (v := 0) hx hb dJ24_divideMagnitude_386 (by decide) ?_
      refine gw_iast (f := (dI g)) hx hb hal hRa hS (by have hsz := hS.1; (try dsimp only [gfr]) <;> omega) 0 (rfl) (by omega) (by omega) dJ24_divideMagnitude_387 (fun H_35 locs h_new hch hS => ?_)
      have hO := hO.ch hch (by omega)
      have hV := hV.ch hch (by omega)
      have hRo := hRo.ch hch (by omega)
      have hQo := hQo.ch hch (by omega)
      have hQa := hQa.ch hch (by omega)
      have sz_H_35 := hch.1
      clear hch
      have hRa : gI z true .int H_35 vr (nl + 1) (upd (dI g) 0 0) := h_new
      replace hRa : gI z true .int H_35 vr (nl + 1) (dI (dup g 0 (0 % 4294967296))) := by
        have q := hRa
        rw [show (0 : Int32) = nI 0 from rfl] at q
        rw [dI_put] at q
        exact q
      have bd_36 : ∀ ix, (dup g 0 (0 % 4294967296)) ix < 4294967296 := dup_lt hg (Nat.mod_lt _ (by decide))
      refine lv_aload hx hb dJ24_divideMagnitude_388 (lv_at hl 10 rfl) ?_
      refine lv_dup hx hb dJ24_divideMagnitude_390 rfl ?_
      refine gw_get (C := RJ24) (T := TJ24) (N := 3) (v := .int (nI nl)) hx hb hts in_J24 hown hal hRo 1 (by decide) (hts _ q980) (fun _ h9 => h9) rfl dJ24_divideMagnitude_391 ?_
      refine lv_iconst (v := 1) hx hb dJ24_divideMagnitude_394 (by decide) ?_
      refine lv_iadd hx hb dJ24_divideMagnitude_395 ?_
      refine g_topi (v := nI (nl + 1)) (ai_add (a := nl) (b := 1) (rfl) (rfl)) ?_
      refine gw_put (C := RJ24) (T := TJ24) (N := 3) (ty := .int) (v := .int (nI (nl + 1))) hx hb hts in_J24 tyJ24 tyJ24_ok nmJ24 (hts _ q974) hown hal hRo hS (by have hsz := hS.1; (try dsimp only [gfr]) <;> omega) 1 (by decide) (hts _ q980) (fun _ h9 => h9) rfl (by decide +kernel) (rfl) (rfl) (Nat.le_of_ble_eq_true rfl) dJ24_divideMagnitude_396 (fun H_37 locs h_new hch hS => ?_)
      have hO := hO.ch hch (by omega)
      have hV := hV.ch hch (by omega)
      have hRa := hRa.ch hch (by omega)
      have hQo := hQo.ch hch (by omega)
      have hQa := hQa.ch hch (by omega)
      have sz_H_37 := hch.1
      clear hch
      have hRo : gO z true RJ24 TJ24 3 H_37 ro [.ref vr, .int (nI (nl + 1)), .int 0] := h_new
      refine lv_aload hx hb dJ24_divideMagnitude_399 (lv_at hl 9 rfl) ?_
      refine lv_iconst (v := 0) hx hb dJ24_divideMagnitude_401 (by decide) ?_
      refine gw_iald hx hb hal hV 0 (rfl) (by omega) (by omega) dJ24_divideMagnitude_402 ?_
      refine g_topi (v := (nI (e1 0))) rfl ?_
      refine lv_istore hx hb dJ24_divideMagnitude_403 hl (by decide) rfl (fun ls hl => ?_)
      have hl : lv_has ls 28 [(11, .int (nI (e1 0))), (10, .ref vq), (9, .int (nI lim)), (8, .int (nI nl)), (0, .ref a), (1, .ref b), (2, .ref qo), (3, .int 1), (4, .int (nI sh)), (5, .int (nI m0)), (6, .ref vd), (7, .ref ro)] := hl
      refine lv_iload hx hb dJ24_divideMagnitude_405 (lv_at hl 0 rfl) ?_
      refine lv_i2l hx hb dJ24_divideMagnitude_407 rfl ?_
      refine lv_ldc2 (v := 4294967295) hx hb hown (hts _ q1035) dJ24_divideMagnitude_408 ?_
      refine lv_land hx hb dJ24_divideMagnitude_411 ?_
      refine g_topl (v := lN (e1 0)) (mk32 (a := (e1 0)) (rfl) (he1 _)) ?_
      refine lv_lstore hx hb dJ24_divideMagnitude_412 hl (by decide) rfl (fun ls hl => ?_)
      have hl : lv_has ls 28 [(12, .long (lN (e1 0))), (11, .int (nI (e1 0))), (10, .ref vq), (9, .int (nI lim)), (8, .int (nI nl)), (0, .ref a), (1, .ref b), (2, .ref qo), (3, .int 1), (4, .int (nI sh)), (5, .int (nI m0)), (6, .ref vd), (7, .ref ro)] := hl
      refine lv_aload hx hb dJ24_divideMagnitude_414 (lv_at hl 11 rfl) ?_
      refine lv_iconst (v := 1) hx hb dJ24_divideMagnitude_416 (by decide) ?_
      refine gw_iald hx hb hal hV 1 (rfl) (by omega) (by omega) dJ24_divideMagnitude_417 ?_
      refine g_topi (v := (nI (e1 1))) rfl ?_
      refine lv_istore hx hb dJ24_divideMagnitude_418 hl (by decide) rfl (fun ls hl => ?_)
      have hl : lv_has ls 28 [(14, .int (nI (e1 1))), (12, .long (lN (e1 0))), (11, .int (nI (e1 0))), (10, .ref vq), (9, .int (nI lim)), (8, .int (nI nl)), (0, .ref a), (1, .ref b), (2, .ref qo), (3, .int 1), (4, .int (nI sh)), (5, .int (nI m0)), (6, .ref vd), (7, .ref ro)] := hl
      refine lv_iconst (v := 0) hx hb dJ24_divideMagnitude_420 (by decide) ?_
      refine lv_istore hx hb dJ24_divideMagnitude_421 hl (by decide) rfl (fun ls hl => ?_)
      have hl : lv_has ls 28 [(15, .int 0), (14, .int (nI (e1 1))), (12, .long (lN (e1 0))), (11, .int (nI (e1 0))), (10, .ref vq), (9, .int (nI lim)), (8, .int (nI nl)), (0, .ref a), (1, .ref b), (2, .ref qo), (3, .int 1), (4, .int (nI sh)), (5, .int (nI m0)), (6, .ref vd), (7, .ref ro)] := hl
      exact W.widen (by omega) (by omega) (cutA _ vd ro vr vq nl lim sh 0 e1 (dup g 0 (0 % 4294967296)) (fun _ => 0) he1 hD2 hDv hsh (by omega) (by unfold adF; omega) (by omega) (by omega) bd_36 (fun _ => by decide) (kn_in hg hm2 rfl hD2) (kn_in2 rfl (by omega) hRv _ _) (fun i h => absurd h (Nat.not_lt_zero _)) (fun _ _ _ => rfl) hsh0 (Nat.lt_succ_self _) H_37 _ hS hO hV hRo hRa hQo hQa ls (lv_sub hl [7, 8, 9, 10, 11, 12, 13, 14, 5, 4, 3, 2, 1, 0] rfl))
    · skip
      have c_346 := mt (ai_le (a := lim) (b := 1) (rfl) (rfl) (by omega) (by omega)).mpr c_346
      refine lv_aload_n hx hb dJ24_divideMagnitude_349 rfl (lv_at hl 4 rfl) ?_
      refine lv_iload hx hb dJ24_divideMagnitude_350 (lv_at hl 0 rfl) ?_
      have hsz := hS.1
      have lt_a := hO.lt
      have lt_vd := hV.lt
      have lt_ro := hRo.lt
      have lt_vr := hRa.lt
      have lt_qo := hQo.lt
      have lt_vq := hQa.lt
      refine gw_newa (atype := .int) (ty := .int) (N' := lim) hx hb (hts _ q990) rfl hal hS (rfl) (by omega) (by simp [componentBytes]; omega) (by first | omega | (dsimp only; omega)) (by first | omega | (dsimp only; omega)) dJ24_divideMagnitude_352 (fun qq H_38 eqq zqq hgx h_qq hS => ?_)
      have hO := hO.x hgx
      have hV := hV.x hgx
      have hRo := hRo.x hgx
      have hRa := hRa.x hgx
      have hQo := hQo.x hgx
      have hQa := hQa.x hgx
      have h_qq : gI z true .int H_38 qq lim (fun _ => 0) := h_qq
      have h_qq : gI z true .int H_38 qq lim (dI (fun _ => 0)) := h_qq
      refine gw_put (C := RJ24) (T := TJ24) (N := 3) (ty := (.array .int)) (v := .ref qq) hx hb hts in_J24 tyJ24 tyJ24_ok nmJ24 (hts _ q974) hown hal hQo hS (by have hsz := hS.1; (try dsimp only [gfr]) <;> omega) 0 (by decide) (hts _ q979) (fun _ h9 => h9) rfl (by decide +kernel) (rfl) (rfl) (Nat.le_of_ble_eq_true rfl) dJ24_divideMagnitude_354 (fun H_39 locs h_new hch hS => ?_)
      have hO := hO.ch hch (by omega)
      have hV := hV.ch hch (by omega)
      have hRo := hRo.ch hch (by omega)
      have hRa := hRa.ch hch (by omega)
      have hQa := hQa.ch hch (by omega)
      have h_qq := h_qq.ch hch (by omega)
      have sz_H_39 := hch.1
      clear hch
      have hQo : gO z true RJ24 TJ24 3 H_39 qo [.ref qq, .int 0, .int 0] := h_new
      refine lv_aload_n hx hb dJ24_divideMagnitude_357 rfl (lv_at hl 4 rfl) ?_
      refine lv_iconst (v := 0) hx hb dJ24_divideMagnitude_358 (by decide) ?_
      refine gw_put (C := RJ24) (T := TJ24) (N := 3) (ty := .int) (v := .int 0) hx hb hts in_J24 tyJ24 tyJ24_ok nmJ24 (hts _ q974) hown hal hQo hS (by have hsz := hS.1; (try dsimp only [gfr]) <;> omega) 2 (by decide) (hts _ q981) (fun _ h9 => h9) rfl (by decide +kernel) (rfl) (rfl) (Nat.le_of_ble_eq_true rfl) dJ24_divideMagnitude_359 (fun H_40 locs h_new hch hS => ?_)
      have hO := hO.ch hch (by omega)
      have hV := hV.ch hch (by omega)
      have hRo := hRo.ch hch (by omega)
      have hRa := hRa.ch hch (by omega)
      have hQa := hQa.ch hch (by omega)
      have h_qq := h_qq.ch hch (by omega)
      have sz_H_40 := hch.1
      clear hch
      have hQo : gO z true RJ24 TJ24 3 H_40 qo [.ref qq, .int 0, .int 0] := h_new
      have hQa := h_qq
      refine lv_aload_n hx hb dJ24_divideMagnitude_362 rfl (lv_at hl 4 rfl) ?_
      refine lv_iload hx hb dJ24_divideMagnitude_363 (lv_at hl 0 rfl) ?_
      refine gw_put (C := RJ24) (T := TJ24) (N := 3) (ty := .int) (v := .int (nI lim)) hx hb hts in_J24 tyJ24 tyJ24_ok nmJ24 (hts _ q974) hown hal hQo hS (by have hsz := hS.1; (try dsimp only [gfr]) <;> omega) 1 (by decide) (hts _ q980) (fun _ h9 => h9) rfl (by decide +kernel) (rfl) (rfl) (Nat.le_of_ble_eq_true rfl) dJ24_divideMagnitude_365 (fun H_41 locs h_new hch hS => ?_)
      have hO := hO.ch hch (by omega)
      have hV := hV.ch hch (by omega)
      have hRo := hRo.ch hch (by omega)
      have hRa := hRa.ch hch (by omega)
      have hQa := hQa.ch hch (by omega)
      have sz_H_41 := hch.1
      clear hch
      have hQo : gO z true RJ24 TJ24 3 H_41 qo [.ref qq, .int (nI lim), .int 0] := h_new
      refine lv_aload_n hx hb dJ24_divideMagnitude_368 rfl (lv_at hl 4 rfl) ?_
      refine gw_get (C := RJ24) (T := TJ24) (N := 3) (v := .ref qq) hx hb hts in_J24 hown hal hQo 0 (by decide) (hts _ q979) (fun _ h9 => h9) rfl dJ24_divideMagnitude_369 ?_
      refine lv_astore hx hb dJ24_divideMagnitude_372 hl (by decide) rfl (fun ls hl => ?_)
      have hl : lv_has ls 28 [(10, .ref qq), (9, .int (nI lim)), (8, .int (nI nl)), (0, .ref a), (1, .ref b), (2, .ref qo), (3, .int 1), (4, .int (nI sh)), (5, .int (nI m0)), (6, .ref vd), (7, .ref ro)] := hl
      refine lv_aload hx hb dJ24_divideMagnitude_374 (lv_at hl 10 rfl) ?_
      refine lv_iconst (v := 0) hx hb dJ24_divideMagnitude_376 (by decide) ?_
      refine gw_put (C := RJ24) (T := TJ24) (N := 3) (ty := .int) (v := .int 0) hx hb hts in_J24 tyJ24 tyJ24_ok nmJ24 (hts _ q974) hown hal hRo hS (by have hsz := hS.1; (try dsimp only [gfr]) <;> omega) 2 (by decide) (hts _ q981) (fun _ h9 => h9) rfl (by decide +kernel) (rfl) (rfl) (Nat.le_of_ble_eq_true rfl) dJ24_divideMagnitude_377 (fun H_42 locs h_new hch hS => ?_)
      have hO := hO.ch hch (by omega)
      have hV := hV.ch hch (by omega)
      have hRa := hRa.ch hch (by omega)
      have hQo := hQo.ch hch (by omega)
      have hQa := hQa.ch hch (by omega)
      have sz_H_42 := hch.1
      clear hch
      have hRo : gO z true RJ24 TJ24 3 H_42 ro [.ref vr, .int (nI nl), .int 0] := h_new
      refine lv_aload hx hb dJ24_divideMagnitude_380 (lv_at hl 10 rfl) ?_
      refine gw_get (C := RJ24) (T := TJ24) (N := 3) (v := .ref vr) hx hb hts in_J24 hown hal hRo 0 (by decide) (hts _ q979) (fun _ h9 => h9) rfl dJ24_divideMagnitude_382 ?_
      refine lv_iconst (v := 0) hx hb dJ24_divideMagnitude_385 (by decide) ?_
      refine lv_iconst (v := 0) hx hb dJ24_divideMagnitude_386 (by decide) ?_
      refine gw_iast (f := (dI g)) hx hb hal hRa hS (by have hsz := hS.1; (try dsimp only [gfr]) <;> omega) 0 (rfl) (by omega) (by omega) dJ24_divideMagnitude_387 (fun H_43 locs h_new hch hS => ?_)
      have hO := hO.ch hch (by omega)
      have hV := hV.ch hch (by omega)
      have hRo := hRo.ch hch (by omega)
      have hQo := hQo.ch hch (by omega)
      have hQa := hQa.ch hch (by omega)
      have sz_H_43 := hch.1
      clear hch
      have hRa : gI z true .int H_43 vr (nl + 1) (upd (dI g) 0 0) := h_new
      replace hRa : gI z true .int H_43 vr (nl + 1) (dI (dup g 0 (0 % 4294967296))) := by
        have q := hRa
        rw [show (0 : Int32) = nI 0 from rfl] at q
        rw [dI_put] at q
        exact q
      have bd_44 : ∀ ix, (dup g 0 (0 % 4294967296)) ix < 4294967296 := dup_lt hg (Nat.mod_lt _ (by decide))
      refine lv_aload hx hb dJ24_divideMagnitude_388 (lv_at hl 10 rfl) ?_
      refine lv_dup hx hb dJ24_divideMagnitude_390 rfl ?_
      refine gw_get (C := RJ24) (T := TJ24) (N := 3) (v := .int (nI nl)) hx hb hts in_J24 hown hal hRo 1 (by decide) (hts _ q980) (fun _ h9 => h9) rfl dJ24_divideMagnitude_391 ?_
      refine lv_iconst (v := 1) hx hb dJ24_divideMagnitude_394 (by decide) ?_
      refine lv_iadd hx hb dJ24_divideMagnitude_395 ?_
      refine g_topi (v := nI (nl + 1)) (ai_add (a := nl) (b := 1) (rfl) (rfl)) ?_
      refine gw_put (C := RJ24) (T := TJ24) (N := 3) (ty := .int) (v := .int (nI (nl + 1))) hx hb hts in_J24 tyJ24 tyJ24_ok nmJ24 (hts _ q974) hown hal hRo hS (by have hsz := hS.1; (try dsimp only [gfr]) <;> omega) 1 (by decide) (hts _ q980) (fun _ h9 => h9) rfl (by decide +kernel) (rfl) (rfl) (Nat.le_of_ble_eq_true rfl) dJ24_divideMagnitude_396 (fun H_45 locs h_new hch hS => ?_)
      have hO := hO.ch hch (by omega)
      have hV := hV.ch hch (by omega)
      have hRa := hRa.ch hch (by omega)
      have hQo := hQo.ch hch (by omega)
      have hQa := hQa.ch hch (by omega)
      have sz_H_45 := hch.1
      clear hch
      have hRo : gO z true RJ24 TJ24 3 H_45 ro [.ref vr, .int (nI (nl + 1)), .int 0] := h_new
      refine lv_aload hx hb dJ24_divideMagnitude_399 (lv_at hl 9 rfl) ?_
      refine lv_iconst (v := 0) hx hb dJ24_divideMagnitude_401 (by decide) ?_
      refine gw_iald hx hb hal hV 0 (rfl) (by omega) (by omega) dJ24_divideMagnitude_402 ?_
      refine g_topi (v := (nI (e1 0))) rfl ?_
      refine lv_istore hx hb dJ24_divideMagnitude_403 hl (by decide) rfl (fun ls hl => ?_)
      have hl : lv_has ls 28 [(11, .int (nI (e1 0))), (10, .ref qq), (9, .int (nI lim)), (8, .int (nI nl)), (0, .ref a), (1, .ref b), (2, .ref qo), (3, .int 1), (4, .int (nI sh)), (5, .int (nI m0)), (6, .ref vd), (7, .ref ro)] := hl
      refine lv_iload hx hb dJ24_divideMagnitude_405 (lv_at hl 0 rfl) ?_
      refine lv_i2l hx hb dJ24_divideMagnitude_407 rfl ?_
      refine lv_ldc2 (v := 4294967295) hx hb hown (hts _ q1035) dJ24_divideMagnitude_408 ?_
      refine lv_land hx hb dJ24_divideMagnitude_411 ?_
      refine g_topl (v := lN (e1 0)) (mk32 (a := (e1 0)) (rfl) (he1 _)) ?_
      refine lv_lstore hx hb dJ24_divideMagnitude_412 hl (by decide) rfl (fun ls hl => ?_)
      have hl : lv_has ls 28 [(12, .long (lN (e1 0))), (11, .int (nI (e1 0))), (10, .ref qq), (9, .int (nI lim)), (8, .int (nI nl)), (0, .ref a), (1, .ref b), (2, .ref qo), (3, .int 1), (4, .int (nI sh)), (5, .int (nI m0)), (6, .ref vd), (7, .ref ro)] := hl
      refine lv_aload hx hb dJ24_divideMagnitude_414 (lv_at hl 11 rfl) ?_
      refine lv_iconst (v := 1) hx hb dJ24_divideMagnitude_416 (by decide) ?_
      refine gw_iald hx hb hal hV 1 (rfl) (by omega) (by omega) dJ24_divideMagnitude_417 ?_
      refine g_topi (v := (nI (e1 1))) rfl ?_
      refine lv_istore hx hb dJ24_divideMagnitude_418 hl (by decide) rfl (fun ls hl => ?_)
      have hl : lv_has ls 28 [(14, .int (nI (e1 1))), (12, .long (lN (e1 0))), (11, .int (nI (e1 0))), (10, .ref qq), (9, .int (nI lim)), (8, .int (nI nl)), (0, .ref a), (1, .ref b), (2, .ref qo), (3, .int 1), (4, .int (nI sh)), (5, .int (nI m0)), (6, .ref vd), (7, .ref ro)] := hl
      refine lv_iconst (v := 0) hx hb dJ24_divideMagnitude_420 (by decide) ?_
      refine lv_istore hx hb dJ24_divideMagnitude_421 hl (by decide) rfl (fun ls hl => ?_)
      have hl : lv_has ls 28 [(15, .int 0), (14, .int (nI (e1 1))), (12, .long (lN (e1 0))), (11, .int (nI (e1 0))), (10, .ref qq), (9, .int (nI lim)), (8, .int (nI nl)), (0, .ref a), (1, .ref b), (2, .ref qo), (3, .int 1), (4, .int (nI sh)), (5, .int (nI m0)), (6, .ref vd), (7, .ref ro)] := hl
      exact W.widen (by omega) (by omega) (cutA _ vd ro vr qq nl lim sh 0 e1 (dup g 0 (0 % 4294967296)) (fun _ => 0) he1 hD2 hDv hsh (by omega) (by unfold adF; omega) (by omega) (by omega) bd_44 (fun _ => by decide) (kn_in hg hm2 rfl hD2) (kn_in2 rfl (by omega) hRv _ _) (fun i h => absurd h (Nat.not_lt_zero _)) (fun _ _ _ => rfl) hsh0 (Nat.lt_succ_self _) H_45 _ hS hO hV hRo hRa hQo hQa ls (lv_sub hl [7, 8, 9, 10, 11, 12, 13, 14, 5, 4, 3, 2, 1, 0] rfl))
  refine lv_aload_n hx hb dJ24_divideMagnitude_0 rfl (lv_at hl 1 rfl) ?_
  refine gw_get (C := RJ24) (T := TJ24) (N := 3) (v := .ref vb) hx hb hts in_J24 hown hal hOb 0 (by decide) (hts _ q979) (fun _ h9 => h9) rfl dJ24_divideMagnitude_1 ?_
  refine lv_aload_n hx hb dJ24_divideMagnitude_4 rfl (lv_at hl 1 rfl) ?_
  refine gw_get (C := RJ24) (T := TJ24) (N := 3) (v := .int 0) hx hb hts in_J24 hown hal hOb 2 (by decide) (hts _ q981) (fun _ h9 => h9) rfl dJ24_divideMagnitude_5 ?_
  refine gw_iald hx hb hal hB 0 (rfl) (by omega) (by omega) dJ24_divideMagnitude_8 ?_
  refine g_topi (v := (nI (ee 0))) rfl ?_
  refine gcS1_iP hCF hwm hl.1 (m_nlz l z H0  (ee 0) (he 0) ) (lw_S q1036 q862 q78 q863) yd_J17_numberOfLeadingZeros ⟨Nat.le_of_ble_eq_true rfl, Nat.le_of_ble_eq_true rfl⟩ ⟨by first | omega | (dsimp only; omega), by first | omega | (dsimp only; omega)⟩ (Nat.le_of_ble_eq_true rfl) dJ24_divideMagnitude_9 (fun rn hp => ?_)
  obtain ⟨b0, hb01, hb02, hb03⟩ := hp
  subst hb02
  obtain ⟨sh, hshe⟩ : ∃ sh, 32 - b0 = sh := ⟨_, rfl⟩
  rw [hshe]
  have hbp : 1 ≤ b0 := by
    rcases Nat.eq_zero_or_pos b0 with c | c
    · have q := hb03.1
      rw [c, show (2 : Nat) ^ 0 = 1 from rfl] at q
      omega
    · exact c
  have hsh : sh < 32 := by omega
  have hbs : b0 + sh = 32 := by omega
  refine lv_istore hx hb dJ24_divideMagnitude_12 hl (by decide) rfl (fun ls hl => ?_)
  have hl : lv_has ls 28 [(4, .int (nI sh)), (0, .ref a), (1, .ref b), (2, .ref qo), (3, .int 1)] := hl
  refine lv_aload_n hx hb dJ24_divideMagnitude_14 rfl (lv_at hl 2 rfl) ?_
  refine gw_get (C := RJ24) (T := TJ24) (N := 3) (v := .int (nI m0)) hx hb hts in_J24 hown hal hOb 1 (by decide) (hts _ q980) (fun _ h9 => h9) rfl dJ24_divideMagnitude_15 ?_
  refine lv_istore hx hb dJ24_divideMagnitude_18 hl (by decide) rfl (fun ls hl => ?_)
  have hl : lv_has ls 28 [(5, .int (nI m0)), (4, .int (nI sh)), (0, .ref a), (1, .ref b), (2, .ref qo), (3, .int 1)] := hl
  have hsh1 : b0 ≤ 31 := by
    refine Decidable.byContradiction fun c => ?_
    have q := hb03.2
    rw [show b0 = 32 by omega] at q
    omega
  have hsh0 : 0 < sh ∧ sh < 32 := by omega
  refine lv_iload hx hb dJ24_divideMagnitude_20 (lv_at hl 1 rfl) ?_
  refine lv_if_le (tgt := 248) hx hb dJ24_divideMagnitude_22 (by decide) (fun c_22 => False.elim (by
    have c_22 := (ai_le (a := sh) (b := 0) (rfl) (rfl) (by omega) (by omega)).mp c_22
    omega)) (fun c_22 => ?_)
  have c_22 := mt (ai_le (a := sh) (b := 0) (rfl) (rfl) (by omega) (by omega)).mpr c_22
  refine lv_iload hx hb dJ24_divideMagnitude_25 (lv_at hl 0 rfl) ?_
  have hsz := hS.1
  have lt_a := hO.lt
  have lt_va := hA.lt
  have lt_b := hOb.lt
  have lt_vb := hB.lt
  have lt_qo := hQo.lt
  have lt_vq := hQa.lt
  refine gw_newa (atype := .int) (ty := .int) (N' := m0) hx hb (hts _ q990) rfl hal hS (rfl) (by omega) (by simp [componentBytes]; omega) (by first | omega | (dsimp only; omega)) (by first | omega | (dsimp only; omega)) dJ24_divideMagnitude_27 (fun qv H_46 eqv zqv hgx h_qv hS => ?_)
  have hO := hO.x hgx
  have hA := hA.x hgx
  have hOb := hOb.x hgx
  have hB := hB.x hgx
  have hQo := hQo.x hgx
  have hQa := hQa.x hgx
  have h_qv : gI z true .int H_46 qv m0 (fun _ => 0) := h_qv
  have h_qv : gI z true .int H_46 qv m0 (dI (fun _ => 0)) := h_qv
  refine lv_astore hx hb dJ24_divideMagnitude_29 hl (by decide) rfl (fun ls hl => ?_)
  have hl : lv_has ls 28 [(6, .ref qv), (5, .int (nI m0)), (4, .int (nI sh)), (0, .ref a), (1, .ref b), (2, .ref qo), (3, .int 1)] := hl
  refine lv_aload_n hx hb dJ24_divideMagnitude_31 rfl (lv_at hl 4 rfl) ?_
  refine gw_get (C := RJ24) (T := TJ24) (N := 3) (v := .ref vb) hx hb hts in_J24 hown hal hOb 0 (by decide) (hts _ q979) (fun _ h9 => h9) rfl dJ24_divideMagnitude_32 ?_
  refine lv_aload_n hx hb dJ24_divideMagnitude_35 rfl (lv_at hl 4 rfl) ?_
  refine gw_get (C := RJ24) (T := TJ24) (N := 3) (v := .int 0) hx hb hts in_J24 hown hal hOb 2 (by decide) (hts _ q981) (fun _ h9 => h9) rfl dJ24_divideMagnitude_36 ?_
  refine lv_iload hx hb dJ24_divideMagnitude_39 (lv_at hl 1 rfl) ?_
  refine lv_aload hx hb dJ24_divideMagnitude_41 (lv_at hl 0 rfl) ?_
  refine lv_iconst (v := 0) hx hb dJ24_divideMagnitude_43 (by decide) ?_
  refine lv_iload hx hb dJ24_divideMagnitude_44 (lv_at hl 2 rfl) ?_
  have hsz := hS.1
  refine gcS6_v hCF hwm hl.1 (m_copyShift l z H_46 vb qv 0 m0 0 sh nb m0 xb ee (fun _ => 0) (by omega) (by omega) hsh (by omega) (by omega) (by omega) (by omega) (by omega) he (fun _ => by decide) hB h_qv ) (lw_S q1082 q1083 q85 q1084) yd_J24_copyAndShift hS (fun q h => by have hsz := hS.1; (try dsimp only [gfr] at h ⊢) <;> omega) ⟨Nat.le_of_ble_eq_true rfl, Nat.le_of_ble_eq_true rfl⟩ ⟨by first | omega | (dsimp only; omega), by first | omega | (dsimp only; omega)⟩ (Nat.le_of_ble_eq_true rfl) dJ24_divideMagnitude_46 (fun H_47 locs hp hex hS => ?_)
  have sz_H_47 : H_46.size ≤ H_47.size := hex.1
  have hO := hO.ex hex (by intro h; (try dsimp only [gfr] at h) <;> omega)
  have hA := hA.ex hex (by intro h; (try dsimp only [gfr] at h) <;> omega)
  have hOb := hOb.ex hex (by intro h; (try dsimp only [gfr] at h) <;> omega)
  have hB := hB.ex hex (by intro h; (try dsimp only [gfr] at h) <;> omega)
  have hQo := hQo.ex hex (by intro h; (try dsimp only [gfr] at h) <;> omega)
  have hQa := hQa.ex hex (by intro h; (try dsimp only [gfr] at h) <;> omega)
  clear h_qv
  obtain ⟨e1, he1, -, he1s, hV⟩ := hp
  have hDv := kn_shl he (by omega) hsh hb03.1 (by omega) he1s
  have hD2 := kn_norm he he1 (by omega) (by omega) hb03 hbs hDv
  have lt_qv := hV.lt
  refine lv_aload_n hx hb dJ24_divideMagnitude_49 rfl (lv_at hl 3 rfl) ?_
  refine gw_get (C := RJ24) (T := TJ24) (N := 3) (v := .ref va) hx hb hts in_J24 hown hal hO 0 (by decide) (hts _ q979) (fun _ h9 => h9) rfl dJ24_divideMagnitude_50 ?_
  refine lv_aload_n hx hb dJ24_divideMagnitude_53 rfl (lv_at hl 3 rfl) ?_
  refine gw_get (C := RJ24) (T := TJ24) (N := 3) (v := .int 0) hx hb hts in_J24 hown hal hO 2 (by decide) (hts _ q981) (fun _ h9 => h9) rfl dJ24_divideMagnitude_54 ?_
  refine gw_iald hx hb hal hA 0 (rfl) (by omega) (by omega) dJ24_divideMagnitude_57 ?_
  refine g_topi (v := (nI (d 0))) rfl ?_
  refine gcS1_iP hCF hwm hl.1 (m_nlz l z H_47  (d 0) (hd 0) ) (lw_S q1036 q862 q78 q863) yd_J17_numberOfLeadingZeros ⟨Nat.le_of_ble_eq_true rfl, Nat.le_of_ble_eq_true rfl⟩ ⟨by first | omega | (dsimp only; omega), by first | omega | (dsimp only; omega)⟩ (Nat.le_of_ble_eq_true rfl) dJ24_divideMagnitude_58 (fun rn2 hp => ?_)
  obtain ⟨b1, hb11, hb12, hb13⟩ := hp
  subst hb12
  refine lv_iload hx hb dJ24_divideMagnitude_61 (lv_at hl 2 rfl) ?_
  refine lv_icmp_lt (tgt := 125) hx hb dJ24_divideMagnitude_63 (by decide) (fun c_63 => ?_) (fun c_63 => ?_)
  · skip
    have c_63 := (ai_lt (a := (32 - b1)) (b := sh) (rfl) (rfl) (by omega) (by omega)).mp c_63
    refine lv_aload_n hx hb dJ24_divideMagnitude_125 rfl (lv_at hl 3 rfl) ?_
    refine gw_get (C := RJ24) (T := TJ24) (N := 3) (v := .int (nI n)) hx hb hts in_J24 hown hal hO 1 (by decide) (hts _ q980) (fun _ h9 => h9) rfl dJ24_divideMagnitude_126 ?_
    refine lv_iconst (v := 2) hx hb dJ24_divideMagnitude_129 (by decide) ?_
    refine lv_iadd hx hb dJ24_divideMagnitude_130 ?_
    refine g_topi (v := nI (n + 2)) (ai_add (a := n) (b := 2) (rfl) (rfl)) ?_
    have hsz := hS.1
    have lt_a := hO.lt
    have lt_va := hA.lt
    have lt_b := hOb.lt
    have lt_vb := hB.lt
    have lt_qo := hQo.lt
    have lt_vq := hQa.lt
    have lt_qv := hV.lt
    refine gw_newa (atype := .int) (ty := .int) (N' := (n + 2)) hx hb (hts _ q990) rfl hal hS (rfl) (by omega) (by simp [componentBytes]; omega) (by first | omega | (dsimp only; omega)) (by first | omega | (dsimp only; omega)) dJ24_divideMagnitude_131 (fun qr H_49 eqr zqr hgx h_qr hS => ?_)
    have hO := hO.x hgx
    have hA := hA.x hgx
    have hOb := hOb.x hgx
    have hB := hB.x hgx
    have hQo := hQo.x hgx
    have hQa := hQa.x hgx
    have hV := hV.x hgx
    have h_qr : gI z true .int H_49 qr (n + 2) (fun _ => 0) := h_qr
    have h_qr : gI z true .int H_49 qr (n + 2) (dI (fun _ => 0)) := h_qr
    refine lv_astore hx hb dJ24_divideMagnitude_133 hl (by decide) rfl (fun ls hl => ?_)
    have hl : lv_has ls 28 [(8, .ref qr), (6, .ref qv), (5, .int (nI m0)), (4, .int (nI sh)), (0, .ref a), (1, .ref b), (2, .ref qo), (3, .int 1)] := hl
    have hsz := hS.1
    have lt_a := hO.lt
    have lt_va := hA.lt
    have lt_b := hOb.lt
    have lt_vb := hB.lt
    have lt_qo := hQo.lt
    have lt_vq := hQa.lt
    have lt_qv := hV.lt
    have lt_qr := h_qr.lt
    refine gw_new (C := RJ24) (T := TJ24) (N := 3) (fs := [.null, .int 0, .int 0]) hx hb hts in_J24 tyJ24 tyJ24_ok hown hal (hts _ q1006) (hts _ q974) (hts _ q85) hS (by decide +kernel) (by first | omega | (dsimp only; omega)) (by first | omega | (dsimp only; omega)) dJ24_divideMagnitude_135 (fun qm H_50 eqm zqm hgx h_qm hS => ?_)
    have hO := hO.x hgx
    have hA := hA.x hgx
    have hOb := hOb.x hgx
    have hB := hB.x hgx
    have hQo := hQo.x hgx
    have hQa := hQa.x hgx
    have hV := hV.x hgx
    have h_qr := h_qr.x hgx
    refine lv_dup hx hb dJ24_divideMagnitude_138 rfl ?_
    refine lv_aload hx hb dJ24_divideMagnitude_139 (lv_at hl 0 rfl) ?_
    have hsz := hS.1
    refine gcI1_v hCF hwm hl.1 (m_mInitA l z H_50 qm qr (n + 2) (fun _ => 0) true h_qm h_qr ) q1085 q992 q85 q993 rfl yd_J24_init_2 hS (fun q h => by have hsz := hS.1; (try dsimp only [gfr] at h ⊢) <;> omega) ⟨Nat.le_of_ble_eq_true rfl, Nat.le_of_ble_eq_true rfl⟩ ⟨by first | omega | (dsimp only; omega), by first | omega | (dsimp only; omega)⟩ (Nat.le_of_ble_eq_true rfl) dJ24_divideMagnitude_141 (fun H_51 locs hp hex hS => ?_)
    have sz_H_51 : H_50.size ≤ H_51.size := hex.1
    have hO := hO.ex hex (by intro h; (try dsimp only [gfr] at h) <;> omega)
    have hA := hA.ex hex (by intro h; (try dsimp only [gfr] at h) <;> omega)
    have hOb := hOb.ex hex (by intro h; (try dsimp only [gfr] at h) <;> omega)
    have hB := hB.ex hex (by intro h; (try dsimp only [gfr] at h) <;> omega)
    have hQo := hQo.ex hex (by intro h; (try dsimp only [gfr] at h) <;> omega)
    have hQa := hQa.ex hex (by intro h; (try dsimp only [gfr] at h) <;> omega)
    have hV := hV.ex hex (by intro h; (try dsimp only [gfr] at h) <;> omega)
    have h_qr := h_qr.ex hex (by intro h; (try dsimp only [gfr] at h) <;> omega)
    clear h_qm
    have hRo := hp
    have lt_qm := hRo.lt
    refine lv_astore hx hb dJ24_divideMagnitude_144 hl (by decide) rfl (fun ls hl => ?_)
    have hl : lv_has ls 28 [(7, .ref qm), (8, .ref qr), (6, .ref qv), (5, .int (nI m0)), (4, .int (nI sh)), (0, .ref a), (1, .ref b), (2, .ref qo), (3, .int 1)] := hl
    refine lv_aload hx hb dJ24_divideMagnitude_146 (lv_at hl 0 rfl) ?_
    refine lv_aload_n hx hb dJ24_divideMagnitude_148 rfl (lv_at hl 5 rfl) ?_
    refine gw_get (C := RJ24) (T := TJ24) (N := 3) (v := .int (nI n)) hx hb hts in_J24 hown hal hO 1 (by decide) (hts _ q980) (fun _ h9 => h9) rfl dJ24_divideMagnitude_149 ?_
    refine lv_iconst (v := 1) hx hb dJ24_divideMagnitude_152 (by decide) ?_
    refine lv_iadd hx hb dJ24_divideMagnitude_153 ?_
    refine g_topi (v := nI (n + 1)) (ai_add (a := n) (b := 1) (rfl) (rfl)) ?_
    refine gw_put (C := RJ24) (T := TJ24) (N := 3) (ty := .int) (v := .int (nI (n + 1))) hx hb hts in_J24 tyJ24 tyJ24_ok nmJ24 (hts _ q974) hown hal hRo hS (by have hsz := hS.1; (try dsimp only [gfr]) <;> omega) 1 (by decide) (hts _ q980) (fun _ h9 => h9) rfl (by decide +kernel) (rfl) (rfl) (Nat.le_of_ble_eq_true rfl) dJ24_divideMagnitude_154 (fun H_53 locs h_new hch hS => ?_)
    have hO := hO.ch hch (by omega)
    have hA := hA.ch hch (by omega)
    have hOb := hOb.ch hch (by omega)
    have hB := hB.ch hch (by omega)
    have hQo := hQo.ch hch (by omega)
    have hQa := hQa.ch hch (by omega)
    have hV := hV.ch hch (by omega)
    have h_qr := h_qr.ch hch (by omega)
    have sz_H_53 := hch.1
    clear hch
    have hRo : gO z true RJ24 TJ24 3 H_53 qm [.ref qr, .int (nI (n + 1)), .int 0] := h_new
    refine lv_aload hx hb dJ24_divideMagnitude_157 (lv_at hl 0 rfl) ?_
    refine lv_iconst (v := 1) hx hb dJ24_divideMagnitude_159 (by decide) ?_
    refine gw_put (C := RJ24) (T := TJ24) (N := 3) (ty := .int) (v := .int 1) hx hb hts in_J24 tyJ24 tyJ24_ok nmJ24 (hts _ q974) hown hal hRo hS (by have hsz := hS.1; (try dsimp only [gfr]) <;> omega) 2 (by decide) (hts _ q981) (fun _ h9 => h9) rfl (by decide +kernel) (rfl) (rfl) (Nat.le_of_ble_eq_true rfl) dJ24_divideMagnitude_160 (fun H_54 locs h_new hch hS => ?_)
    have hO := hO.ch hch (by omega)
    have hA := hA.ch hch (by omega)
    have hOb := hOb.ch hch (by omega)
    have hB := hB.ch hch (by omega)
    have hQo := hQo.ch hch (by omega)
    have hQa := hQa.ch hch (by omega)
    have hV := hV.ch hch (by omega)
    have h_qr := h_qr.ch hch (by omega)
    have sz_H_54 := hch.1
    clear hch
    have hRo : gO z true RJ24 TJ24 3 H_54 qm [.ref qr, .int (nI (n + 1)), .int 1] := h_new
    refine lv_aload_n hx hb dJ24_divideMagnitude_163 rfl (lv_at hl 5 rfl) ?_
    refine gw_get (C := RJ24) (T := TJ24) (N := 3) (v := .int 0) hx hb hts in_J24 hown hal hO 2 (by decide) (hts _ q981) (fun _ h9 => h9) rfl dJ24_divideMagnitude_164 ?_
    refine lv_istore hx hb dJ24_divideMagnitude_167 hl (by decide) rfl (fun ls hl => ?_)
    have hl : lv_has ls 28 [(9, .int 0), (7, .ref qm), (8, .ref qr), (6, .ref qv), (5, .int (nI m0)), (4, .int (nI sh)), (0, .ref a), (1, .ref b), (2, .ref qo), (3, .int 1)] := hl
    refine lv_iconst (v := 0) hx hb dJ24_divideMagnitude_169 (by decide) ?_
    refine lv_istore hx hb dJ24_divideMagnitude_170 hl (by decide) rfl (fun ls hl => ?_)
    have hl : lv_has ls 28 [(10, .int 0), (9, .int 0), (7, .ref qm), (8, .ref qr), (6, .ref qv), (5, .int (nI m0)), (4, .int (nI sh)), (0, .ref a), (1, .ref b), (2, .ref qo), (3, .int 1)] := hl
    refine lv_bipush (v := 32) hx hb dJ24_divideMagnitude_172 (by decide) ?_
    refine lv_iload hx hb dJ24_divideMagnitude_174 (lv_at hl 6 rfl) ?_
    refine lv_isub hx hb dJ24_divideMagnitude_176 ?_
    refine g_topi (v := nI (32 - sh)) (ai_sub (a := 32) (b := sh) (rfl) (rfl) (by omega)) ?_
    refine lv_istore hx hb dJ24_divideMagnitude_177 hl (by decide) rfl (fun ls hl => ?_)
    have hl : lv_has ls 28 [(11, .int (nI (32 - sh))), (10, .int 0), (9, .int 0), (7, .ref qm), (8, .ref qr), (6, .ref qv), (5, .int (nI m0)), (4, .int (nI sh)), (0, .ref a), (1, .ref b), (2, .ref qo), (3, .int 1)] := hl
    refine lv_iconst (v := 1) hx hb dJ24_divideMagnitude_179 (by decide) ?_
    refine lv_istore hx hb dJ24_divideMagnitude_180 hl (by decide) rfl (fun ls hl => ?_)
    have hl : lv_has ls 28 [(12, .int 1), (11, .int (nI (32 - sh))), (10, .int 0), (9, .int 0), (7, .ref qm), (8, .ref qr), (6, .ref qv), (5, .int (nI m0)), (4, .int (nI sh)), (0, .ref a), (1, .ref b), (2, .ref qo), (3, .int 1)] := hl
    have e_fit : (fun _ => 0) = (wk (dz d) (fun _ => 0) 1 sh 0) := by
      exact (wk_0 _ _ 1 sh).symm
    replace h_qr : gI z true .int H_54 qr (n + 2) (dI (wk (dz d) (fun _ => 0) 1 sh 0)) := by
      rw [← e_fit]
      exact h_qr
    clear e_fit
    replace hl : lv_has ls 28 [(12, .int (nI (1 + 0))), (11, .int (nI (32 - sh))), (10, .int (nI (dz d 0))), (9, .int (nI 0)), (7, .ref qm), (8, .ref qr), (6, .ref qv), (5, .int (nI m0)), (4, .int (nI sh)), (0, .ref a), (1, .ref b), (2, .ref qo), (3, .int 1)] := by
      exact hl
    have loopZ : ∀ (n_ : Nat) (t : Nat), (t ≤ n) → (n + 1 - t) < n_ → ∀ (H_55 : Heap) (locs : List Loc), va_S (fun q => q = qo ∨ q = vq ∨ H0.size ≤ q) H0 H_55 locs → gO z wa RJ24 TJ24 3 H_55 a [.ref va, .int (nI n), .int 0] → gI z xa .int H_55 va na (dI d) → gO z wb RJ24 TJ24 3 H_55 b [.ref vb, .int (nI m0), .int 0] → gI z xb .int H_55 vb nb (dI ee) → gO z true RJ24 TJ24 3 H_55 qo [.ref vq, .int 0, .int 0] → gI z true .int H_55 vq 1 (dI (fun _ => 0)) → gI z true .int H_55 qv m0 (dI e1) → gI z true .int H_55 qr (n + 2) (dI (wk (dz d) (fun _ => 0) 1 sh t)) → gO z true RJ24 TJ24 3 H_55 qm [.ref qr, .int (nI (n + 1)), .int 1] → ∀ (ls : Array Slot), lv_has ls 28 [(12, .int (nI (1 + t))), (11, .int (nI (32 - sh))), (10, .int (nI (dz d t))), (9, .int (nI t)), (7, .ref qm), (8, .ref qr), (6, .ref qv), (5, .int (nI m0)), (4, .int (nI sh)), (0, .ref a), (1, .ref b), (2, .ref qo), (3, .int 1)] → W p l e { frames := 3, cells := 4, slots := (2 * n + 7), locals := 65 } s m [.ref a, .ref b, .ref qo, .int 1].toArray below meth c H_55 locs 3 (0 + m0 + 0 + (n + 2) + 3 + 0) (MQ below (gRr (fun q => q = qo ∨ q = vq ∨ H0.size ≤ q) H0 (fun r H1 => H0.size ≤ r ∧ ∃ v1 v2, v1 ≠ v2 ∧ (v1 = vq ∨ H0.size ≤ v1) ∧ v1 ≠ qo ∧ H0.size ≤ v2 ∧ v1 ≠ r ∧ v2 ≠ r ∧ mV z H1 qo v1 (n + 2) (seg d 0 n / seg ee 0 m0) ∧ mV z H1 r v2 (n + 2) (seg d 0 n % seg ee 0 m0))) [.ref a, .ref b, .ref qo, .int 1].toArray s 4 (2 * n + 7) (fun q => q = qo ∨ q = vq ∨ H0.size ≤ q)) (F0 m 182 ls []) := by
      intro n_
      induction n_ with
      | zero => intro t ht hm_; exact absurd hm_ (Nat.not_lt_zero _)
      | succ n_ ih_loopZ =>
        intro t ht hm_ H_55 locs hS hO hA hOb hB hQo hQa hV h_qr hRo ls hl
        refine lv_iload hx hb dJ24_divideMagnitude_182 (lv_at hl 0 rfl) ?_
        refine lv_aload_n hx hb dJ24_divideMagnitude_184 rfl (lv_at hl 9 rfl) ?_
        refine gw_get (C := RJ24) (T := TJ24) (N := 3) (v := .int (nI n)) hx hb hts in_J24 hown hal hO 1 (by decide) (hts _ q980) (fun _ h9 => h9) rfl dJ24_divideMagnitude_185 ?_
        refine lv_iconst (v := 1) hx hb dJ24_divideMagnitude_188 (by decide) ?_
        refine lv_iadd hx hb dJ24_divideMagnitude_189 ?_
        refine g_topi (v := nI (n + 1)) (ai_add (a := n) (b := 1) (rfl) (rfl)) ?_
        refine lv_icmp_ge (tgt := 231) hx hb dJ24_divideMagnitude_190 (by decide) (fun c_190 => ?_) (fun c_190 => ?_)
        · skip
          have c_190 := (ai_le (a := (n + 1)) (b := (1 + t)) (rfl) (rfl) (by omega) (by omega)).mp c_190
          have e_fit : (wk (dz d) (fun _ => 0) 1 sh t) = (wk (dz d) (fun _ => 0) 1 sh n) := by
            rw [show t = n by omega]
          replace h_qr : gI z true .int H_55 qr (n + 2) (dI (wk (dz d) (fun _ => 0) 1 sh n)) := by
            rw [← e_fit]
            exact h_qr
          clear e_fit
          replace hl : lv_has ls 28 [(12, .int (nI (1 + t))), (11, .int (nI (32 - sh))), (10, .int (nI (dz d n))), (9, .int (nI t)), (7, .ref qm), (8, .ref qr), (6, .ref qv), (5, .int (nI m0)), (4, .int (nI sh)), (0, .ref a), (1, .ref b), (2, .ref qo), (3, .int 1)] := by
            rw [show n = t by omega]
            exact hl
          refine lv_aload hx hb dJ24_divideMagnitude_231 (lv_at hl 5 rfl) ?_
          refine lv_aload_n hx hb dJ24_divideMagnitude_233 rfl (lv_at hl 9 rfl) ?_
          refine gw_get (C := RJ24) (T := TJ24) (N := 3) (v := .int (nI n)) hx hb hts in_J24 hown hal hO 1 (by decide) (hts _ q980) (fun _ h9 => h9) rfl dJ24_divideMagnitude_234 ?_
          refine lv_iconst (v := 1) hx hb dJ24_divideMagnitude_237 (by decide) ?_
          refine lv_iadd hx hb dJ24_divideMagnitude_238 ?_
          refine g_topi (v := nI (n + 1)) (ai_add (a := n) (b := 1) (rfl) (rfl)) ?_
          refine lv_iload hx hb dJ24_divideMagnitude_239 (lv_at hl 2 rfl) ?_
          refine lv_iload hx hb dJ24_divideMagnitude_241 (lv_at hl 8 rfl) ?_
          refine lv_ishl hx hb dJ24_divideMagnitude_243 ?_
          refine g_topi (v := nI ((dz d n) * 2 ^ sh)) (ai_shlv (a := (dz d n)) (k := sh) (rfl) (rfl) (by omega)) ?_
          refine gw_iast (f := (dI (wk (dz d) (fun _ => 0) 1 sh n))) hx hb hal h_qr hS (by have hsz := hS.1; (try dsimp only [gfr]) <;> omega) (n + 1) (rfl) (by omega) (by omega) dJ24_divideMagnitude_244 (fun H_56 locs h_new hch hS => ?_)
          have hO := hO.ch hch (by omega)
          have hA := hA.ch hch (by omega)
          have hOb := hOb.ch hch (by omega)
          have hB := hB.ch hch (by omega)
          have hQo := hQo.ch hch (by omega)
          have hQa := hQa.ch hch (by omega)
          have hV := hV.ch hch (by omega)
          have hRo := hRo.ch hch (by omega)
          have sz_H_56 := hch.1
          clear hch
          have h_qr : gI z true .int H_56 qr (n + 2) (upd (dI (wk (dz d) (fun _ => 0) 1 sh n)) (n + 1) (nI ((dz d n) * 2 ^ sh))) := h_new
          replace h_qr : gI z true .int H_56 qr (n + 2) (dI (dup (wk (dz d) (fun _ => 0) 1 sh n) (n + 1) (((dz d n) * 2 ^ sh) % 4294967296))) := by
            have q := h_qr
            rw [dI_put] at q
            exact q
          have bd_57 : ∀ ix, (dup (wk (dz d) (fun _ => 0) 1 sh n) (n + 1) (((dz d n) * 2 ^ sh) % 4294967296)) ix < 4294967296 := dup_lt (wk_lt (dz_lt hd) (fun _ => by decide) hsh (by omega)) (Nat.mod_lt _ (by decide))
          have hRv : seg (dup (wk (dz d) (fun _ => 0) 1 sh n) (n + 1) (((dz d n) * 2 ^ sh) % 4294967296)) 1 (n + 1) = seg d 0 n * 2 ^ sh := by
            have q := wk_seg (d := dz d) (g := fun _ => 0) (o := 1) (s := sh) (n := n + 1) (by omega)
            rw [Nat.add_sub_cancel, show 1 + (n + 1) - 1 = n + 1 by omega] at q
            rw [q]
            exact dz_val hd hsh n
          have hRa := h_qr
          refine lv_goto (tgt := 323) hx hb dJ24_divideMagnitude_245 (by decide) ?_
          exact W.widen (by omega) (by omega) (cutS qv qm qr (n + 1) sh e1 (dup (wk (dz d) (fun _ => 0) 1 sh n) (n + 1) (((dz d n) * 2 ^ sh) % 4294967296)) (by omega) (by omega) (by omega) he1 bd_57 hD2 hDv hsh hRv hsh0 H_56 _ hS hO hV hRo hRa hQo hQa ls (lv_sub hl [9, 10, 11, 12, 8, 7, 6, 4] rfl))
        · skip
          have c_190 := mt (ai_le (a := (n + 1)) (b := (1 + t)) (rfl) (rfl) (by omega) (by omega)).mpr c_190
          refine lv_iload hx hb dJ24_divideMagnitude_193 (lv_at hl 2 rfl) ?_
          refine lv_istore hx hb dJ24_divideMagnitude_195 hl (by decide) rfl (fun ls hl => ?_)
          have hl : lv_has ls 28 [(13, .int (nI (dz d t))), (12, .int (nI (1 + t))), (11, .int (nI (32 - sh))), (10, .int (nI (dz d t))), (9, .int (nI t)), (7, .ref qm), (8, .ref qr), (6, .ref qv), (5, .int (nI m0)), (4, .int (nI sh)), (0, .ref a), (1, .ref b), (2, .ref qo), (3, .int 1)] := hl
          refine lv_aload_n hx hb dJ24_divideMagnitude_197 rfl (lv_at hl 10 rfl) ?_
          refine gw_get (C := RJ24) (T := TJ24) (N := 3) (v := .ref va) hx hb hts in_J24 hown hal hO 0 (by decide) (hts _ q979) (fun _ h9 => h9) rfl dJ24_divideMagnitude_198 ?_
          refine lv_iload hx hb dJ24_divideMagnitude_201 (lv_at hl 4 rfl) ?_
          refine gw_iald hx hb hal hA t (rfl) (by omega) (by omega) dJ24_divideMagnitude_203 ?_
          refine g_topi (v := (nI (d t))) rfl ?_
          refine g_topi (v := (nI (dz d (t + 1)))) (rfl) ?_
          refine lv_istore hx hb dJ24_divideMagnitude_204 hl (by decide) rfl (fun ls hl => ?_)
          have hl : lv_has ls 28 [(10, .int (nI (dz d (t + 1)))), (13, .int (nI (dz d t))), (12, .int (nI (1 + t))), (11, .int (nI (32 - sh))), (9, .int (nI t)), (7, .ref qm), (8, .ref qr), (6, .ref qv), (5, .int (nI m0)), (4, .int (nI sh)), (0, .ref a), (1, .ref b), (2, .ref qo), (3, .int 1)] := hl
          refine lv_aload hx hb dJ24_divideMagnitude_206 (lv_at hl 6 rfl) ?_
          refine lv_iload hx hb dJ24_divideMagnitude_208 (lv_at hl 2 rfl) ?_
          refine lv_iload hx hb dJ24_divideMagnitude_210 (lv_at hl 1 rfl) ?_
          refine lv_iload hx hb dJ24_divideMagnitude_212 (lv_at hl 9 rfl) ?_
          refine lv_ishl hx hb dJ24_divideMagnitude_214 ?_
          refine g_topi (v := nI ((dz d t) * 2 ^ sh)) (ai_shlv (a := (dz d t)) (k := sh) (rfl) (rfl) (by omega)) ?_
          have hq1 := dz_lt hd (t + 1)
          refine lv_iload hx hb dJ24_divideMagnitude_215 (lv_at hl 0 rfl) ?_
          refine lv_iload hx hb dJ24_divideMagnitude_217 (lv_at hl 3 rfl) ?_
          refine lv_iushr hx hb dJ24_divideMagnitude_219 rfl ?_
          refine g_topi (v := nI ((dz d (t + 1)) / 2 ^ (32 - sh))) (ai_ushr (a := (dz d (t + 1))) (k := (32 - sh)) (rfl) (rfl) (by omega) (by omega)) ?_
          refine lv_ior hx hb dJ24_divideMagnitude_220 ?_
          refine g_topi (v := (nI ((dz d t * 2 ^ sh) % 4294967296 + dz d (t + 1) / 2 ^ (32 - sh)))) ((sh_dig hsh (by omega) (dz_lt hd (t + 1))).1) ?_
          refine gw_iast (f := (dI (wk (dz d) (fun _ => 0) 1 sh t))) hx hb hal h_qr hS (by have hsz := hS.1; (try dsimp only [gfr]) <;> omega) (1 + t) (rfl) (by omega) (by omega) dJ24_divideMagnitude_221 (fun H_58 locs h_new hch hS => ?_)
          have hO := hO.ch hch (by omega)
          have hA := hA.ch hch (by omega)
          have hOb := hOb.ch hch (by omega)
          have hB := hB.ch hch (by omega)
          have hQo := hQo.ch hch (by omega)
          have hQa := hQa.ch hch (by omega)
          have hV := hV.ch hch (by omega)
          have hRo := hRo.ch hch (by omega)
          have sz_H_58 := hch.1
          clear hch
          have h_qr : gI z true .int H_58 qr (n + 2) (upd (dI (wk (dz d) (fun _ => 0) 1 sh t)) (1 + t) (nI ((dz d t * 2 ^ sh) % 4294967296 + dz d (t + 1) / 2 ^ (32 - sh)))) := h_new
          replace h_qr : gI z true .int H_58 qr (n + 2) (dI (dup (wk (dz d) (fun _ => 0) 1 sh t) (1 + t) (((dz d t * 2 ^ sh) % 4294967296 + dz d (t + 1) / 2 ^ (32 - sh)) % 4294967296))) := by
            have q := h_qr
            rw [dI_put] at q
            exact q
          have bd_59 : ∀ ix, (dup (wk (dz d) (fun _ => 0) 1 sh t) (1 + t) (((dz d t * 2 ^ sh) % 4294967296 + dz d (t + 1) / 2 ^ (32 - sh)) % 4294967296)) ix < 4294967296 := dup_lt (wk_lt (dz_lt hd) (fun _ => by decide) hsh (by omega)) (Nat.mod_lt _ (by decide))
          refine lv_iinc (k := 2) (v := (nI (1 + t + 1))) hx hb dJ24_divideMagnitude_222 hl rfl (ai_add (a := (1 + t)) (b := 1) (rfl) (show Int32.ofInt 1 = nI 1 by decide)) (by decide) rfl (fun ls hl => ?_)
          have hl : lv_has ls 28 [(12, .int (nI (1 + t + 1))), (10, .int (nI (dz d (t + 1)))), (13, .int (nI (dz d t))), (11, .int (nI (32 - sh))), (9, .int (nI t)), (7, .ref qm), (8, .ref qr), (6, .ref qv), (5, .int (nI m0)), (4, .int (nI sh)), (0, .ref a), (1, .ref b), (2, .ref qo), (3, .int 1)] := hl
          refine lv_iinc (k := 4) (v := (nI (t + 1))) hx hb dJ24_divideMagnitude_225 hl rfl (ai_add (a := t) (b := 1) (rfl) (show Int32.ofInt 1 = nI 1 by decide)) (by decide) rfl (fun ls hl => ?_)
          have hl : lv_has ls 28 [(9, .int (nI (t + 1))), (12, .int (nI (1 + t + 1))), (10, .int (nI (dz d (t + 1)))), (13, .int (nI (dz d t))), (11, .int (nI (32 - sh))), (7, .ref qm), (8, .ref qr), (6, .ref qv), (5, .int (nI m0)), (4, .int (nI sh)), (0, .ref a), (1, .ref b), (2, .ref qo), (3, .int 1)] := hl
          refine lv_goto (tgt := 182) hx hb dJ24_divideMagnitude_228 (by decide) ?_
          have e_fit : (dup (wk (dz d) (fun _ => 0) 1 sh t) (1 + t) (((dz d t * 2 ^ sh) % 4294967296 + dz d (t + 1) / 2 ^ (32 - sh)) % 4294967296)) = (wk (dz d) (fun _ => 0) 1 sh (t + 1)) := by
            exact wk_s (dz_lt hd) hsh (by omega)
          replace h_qr : gI z true .int H_58 qr (n + 2) (dI (wk (dz d) (fun _ => 0) 1 sh (t + 1))) := by
            rw [← e_fit]
            exact h_qr
          clear e_fit
          replace hl : lv_has ls 28 [(9, .int (nI (t + 1))), (12, .int (nI (1 + (t + 1)))), (10, .int (nI (dz d (t + 1)))), (13, .int (nI (dz d t))), (11, .int (nI (32 - sh))), (7, .ref qm), (8, .ref qr), (6, .ref qv), (5, .int (nI m0)), (4, .int (nI sh)), (0, .ref a), (1, .ref b), (2, .ref qo), (3, .int 1)] := by
            exact hl
          exact ih_loopZ (t + 1) (by omega) (by omega) H_58 _ hS hO hA hOb hB hQo hQa hV h_qr hRo ls (lv_sub hl [1, 4, 2, 0, 5, 6, 7, 8, 9, 10, 11, 12, 13] rfl)
    exact loopZ _ 0 (Nat.zero_le _) (Nat.lt_succ_self _) H_54 _ hS hO hA hOb hB hQo hQa hV h_qr hRo ls (lv_sub hl [0, 1, 2, 3, 4, 5, 6, 7, 8, 9, 10, 11, 12] rfl)
  · skip
    have c_63 := mt (ai_lt (a := (32 - b1)) (b := sh) (rfl) (rfl) (by omega) (by omega)).mpr c_63
    refine lv_aload_n hx hb dJ24_divideMagnitude_66 rfl (lv_at hl 3 rfl) ?_
    refine gw_get (C := RJ24) (T := TJ24) (N := 3) (v := .int (nI n)) hx hb hts in_J24 hown hal hO 1 (by decide) (hts _ q980) (fun _ h9 => h9) rfl dJ24_divideMagnitude_67 ?_
    refine lv_iconst (v := 1) hx hb dJ24_divideMagnitude_70 (by decide) ?_
    refine lv_iadd hx hb dJ24_divideMagnitude_71 ?_
    refine g_topi (v := nI (n + 1)) (ai_add (a := n) (b := 1) (rfl) (rfl)) ?_
    have hsz := hS.1
    have lt_a := hO.lt
    have lt_va := hA.lt
    have lt_b := hOb.lt
    have lt_vb := hB.lt
    have lt_qo := hQo.lt
    have lt_vq := hQa.lt
    have lt_qv := hV.lt
    refine gw_newa (atype := .int) (ty := .int) (N' := (n + 1)) hx hb (hts _ q990) rfl hal hS (rfl) (by omega) (by simp [componentBytes]; omega) (by first | omega | (dsimp only; omega)) (by first | omega | (dsimp only; omega)) dJ24_divideMagnitude_72 (fun qr H_60 eqr zqr hgx h_qr hS => ?_)
    have hO := hO.x hgx
    have hA := hA.x hgx
    have hOb := hOb.x hgx
    have hB := hB.x hgx
    have hQo := hQo.x hgx
    have hQa := hQa.x hgx
    have hV := hV.x hgx
    have h_qr : gI z true .int H_60 qr (n + 1) (fun _ => 0) := h_qr
    have h_qr : gI z true .int H_60 qr (n + 1) (dI (fun _ => 0)) := h_qr
    refine lv_astore hx hb dJ24_divideMagnitude_74 hl (by decide) rfl (fun ls hl => ?_)
    have hl : lv_has ls 28 [(8, .ref qr), (6, .ref qv), (5, .int (nI m0)), (4, .int (nI sh)), (0, .ref a), (1, .ref b), (2, .ref qo), (3, .int 1)] := hl
    have hsz := hS.1
    have lt_a := hO.lt
    have lt_va := hA.lt
    have lt_b := hOb.lt
    have lt_vb := hB.lt
    have lt_qo := hQo.lt
    have lt_vq := hQa.lt
    have lt_qv := hV.lt
    have lt_qr := h_qr.lt
    refine gw_new (C := RJ24) (T := TJ24) (N := 3) (fs := [.null, .int 0, .int 0]) hx hb hts in_J24 tyJ24 tyJ24_ok hown hal (hts _ q1006) (hts _ q974) (hts _ q85) hS (by decide +kernel) (by first | omega | (dsimp only; omega)) (by first | omega | (dsimp only; omega)) dJ24_divideMagnitude_76 (fun qm H_61 eqm zqm hgx h_qm hS => ?_)
    have hO := hO.x hgx
    have hA := hA.x hgx
    have hOb := hOb.x hgx
    have hB := hB.x hgx
    have hQo := hQo.x hgx
    have hQa := hQa.x hgx
    have hV := hV.x hgx
    have h_qr := h_qr.x hgx
    refine lv_dup hx hb dJ24_divideMagnitude_79 rfl ?_
    refine lv_aload hx hb dJ24_divideMagnitude_80 (lv_at hl 0 rfl) ?_
    have hsz := hS.1
    refine gcI1_v hCF hwm hl.1 (m_mInitA l z H_61 qm qr (n + 1) (fun _ => 0) true h_qm h_qr ) q1085 q992 q85 q993 rfl yd_J24_init_2 hS (fun q h => by have hsz := hS.1; (try dsimp only [gfr] at h ⊢) <;> omega) ⟨Nat.le_of_ble_eq_true rfl, Nat.le_of_ble_eq_true rfl⟩ ⟨by first | omega | (dsimp only; omega), by first | omega | (dsimp only; omega)⟩ (Nat.le_of_ble_eq_true rfl) dJ24_divideMagnitude_82 (fun H_62 locs hp hex hS => ?_)
    have sz_H_62 : H_61.size ≤ H_62.size := hex.1
    have hO := hO.ex hex (by intro h; (try dsimp only [gfr] at h) <;> omega)
    have hA := hA.ex hex (by intro h; (try dsimp only [gfr] at h) <;> omega)
    have hOb := hOb.ex hex (by intro h; (try dsimp only [gfr] at h) <;> omega)
    have hB := hB.ex hex (by intro h; (try dsimp only [gfr] at h) <;> omega)
    have hQo := hQo.ex hex (by intro h; (try dsimp only [gfr] at h) <;> omega)
    have hQa := hQa.ex hex (by intro h; (try dsimp only [gfr] at h) <;> omega)
    have hV := hV.ex hex (by intro h; (try dsimp only [gfr] at h) <;> omega)
    have h_qr := h_qr.ex hex (by intro h; (try dsimp only [gfr] at h) <;> omega)
    clear h_qm
    have hRo := hp
    have lt_qm := hRo.lt
    refine lv_astore hx hb dJ24_divideMagnitude_85 hl (by decide) rfl (fun ls hl => ?_)
    have hl : lv_has ls 28 [(7, .ref qm), (8, .ref qr), (6, .ref qv), (5, .int (nI m0)), (4, .int (nI sh)), (0, .ref a), (1, .ref b), (2, .ref qo), (3, .int 1)] := hl
    refine lv_aload hx hb dJ24_divideMagnitude_87 (lv_at hl 0 rfl) ?_
    refine lv_aload_n hx hb dJ24_divideMagnitude_89 rfl (lv_at hl 5 rfl) ?_
    refine gw_get (C := RJ24) (T := TJ24) (N := 3) (v := .int (nI n)) hx hb hts in_J24 hown hal hO 1 (by decide) (hts _ q980) (fun _ h9 => h9) rfl dJ24_divideMagnitude_90 ?_
    refine gw_put (C := RJ24) (T := TJ24) (N := 3) (ty := .int) (v := .int (nI n)) hx hb hts in_J24 tyJ24 tyJ24_ok nmJ24 (hts _ q974) hown hal hRo hS (by have hsz := hS.1; (try dsimp only [gfr]) <;> omega) 1 (by decide) (hts _ q980) (fun _ h9 => h9) rfl (by decide +kernel) (rfl) (rfl) (Nat.le_of_ble_eq_true rfl) dJ24_divideMagnitude_93 (fun H_64 locs h_new hch hS => ?_)
    have hO := hO.ch hch (by omega)
    have hA := hA.ch hch (by omega)
    have hOb := hOb.ch hch (by omega)
    have hB := hB.ch hch (by omega)
    have hQo := hQo.ch hch (by omega)
    have hQa := hQa.ch hch (by omega)
    have hV := hV.ch hch (by omega)
    have h_qr := h_qr.ch hch (by omega)
    have sz_H_64 := hch.1
    clear hch
    have hRo : gO z true RJ24 TJ24 3 H_64 qm [.ref qr, .int (nI n), .int 0] := h_new
    refine lv_aload hx hb dJ24_divideMagnitude_96 (lv_at hl 0 rfl) ?_
    refine lv_iconst (v := 1) hx hb dJ24_divideMagnitude_98 (by decide) ?_
    refine gw_put (C := RJ24) (T := TJ24) (N := 3) (ty := .int) (v := .int 1) hx hb hts in_J24 tyJ24 tyJ24_ok nmJ24 (hts _ q974) hown hal hRo hS (by have hsz := hS.1; (try dsimp only [gfr]) <;> omega) 2 (by decide) (hts _ q981) (fun _ h9 => h9) rfl (by decide +kernel) (rfl) (rfl) (Nat.le_of_ble_eq_true rfl) dJ24_divideMagnitude_99 (fun H_65 locs h_new hch hS => ?_)
    have hO := hO.ch hch (by omega)
    have hA := hA.ch hch (by omega)
    have hOb := hOb.ch hch (by omega)
    have hB := hB.ch hch (by omega)
    have hQo := hQo.ch hch (by omega)
    have hQa := hQa.ch hch (by omega)
    have hV := hV.ch hch (by omega)
    have h_qr := h_qr.ch hch (by omega)
    have sz_H_65 := hch.1
    clear hch
    have hRo : gO z true RJ24 TJ24 3 H_65 qm [.ref qr, .int (nI n), .int 1] := h_new
    refine lv_aload_n hx hb dJ24_divideMagnitude_102 rfl (lv_at hl 5 rfl) ?_
    refine gw_get (C := RJ24) (T := TJ24) (N := 3) (v := .ref va) hx hb hts in_J24 hown hal hO 0 (by decide) (hts _ q979) (fun _ h9 => h9) rfl dJ24_divideMagnitude_103 ?_
    refine lv_aload_n hx hb dJ24_divideMagnitude_106 rfl (lv_at hl 5 rfl) ?_
    refine gw_get (C := RJ24) (T := TJ24) (N := 3) (v := .int 0) hx hb hts in_J24 hown hal hO 2 (by decide) (hts _ q981) (fun _ h9 => h9) rfl dJ24_divideMagnitude_107 ?_
    refine lv_aload_n hx hb dJ24_divideMagnitude_110 rfl (lv_at hl 5 rfl) ?_
    refine gw_get (C := RJ24) (T := TJ24) (N := 3) (v := .int (nI n)) hx hb hts in_J24 hown hal hO 1 (by decide) (hts _ q980) (fun _ h9 => h9) rfl dJ24_divideMagnitude_111 ?_
    refine lv_aload hx hb dJ24_divideMagnitude_114 (lv_at hl 1 rfl) ?_
    refine lv_iconst (v := 1) hx hb dJ24_divideMagnitude_116 (by decide) ?_
    refine lv_iload hx hb dJ24_divideMagnitude_117 (lv_at hl 4 rfl) ?_
    have hsz := hS.1
    refine gcS6_v hCF hwm hl.1 (m_copyShift l z H_65 va qr 0 n 1 sh na (n + 1) xa d (fun _ => 0) (by omega) (by omega) hsh (by omega) (by omega) (by omega) (by omega) (by omega) hd (fun _ => by decide) hA h_qr ) (lw_S q1082 q1083 q85 q1084) yd_J24_copyAndShift hS (fun q h => by have hsz := hS.1; (try dsimp only [gfr] at h ⊢) <;> omega) ⟨Nat.le_of_ble_eq_true rfl, Nat.le_of_ble_eq_true rfl⟩ ⟨by first | omega | (dsimp only; omega), by first | omega | (dsimp only; omega)⟩ (Nat.le_of_ble_eq_true rfl) dJ24_divideMagnitude_119 (fun H_66 locs hp hex hS => ?_)
    have sz_H_66 : H_65.size ≤ H_66.size := hex.1
    have hO := hO.ex hex (by intro h; (try dsimp only [gfr] at h) <;> omega)
    have hA := hA.ex hex (by intro h; (try dsimp only [gfr] at h) <;> omega)
    have hOb := hOb.ex hex (by intro h; (try dsimp only [gfr] at h) <;> omega)
    have hB := hB.ex hex (by intro h; (try dsimp only [gfr] at h) <;> omega)
    have hQo := hQo.ex hex (by intro h; (try dsimp only [gfr] at h) <;> omega)
    have hQa := hQa.ex hex (by intro h; (try dsimp only [gfr] at h) <;> omega)
    have hV := hV.ex hex (by intro h; (try dsimp only [gfr] at h) <;> omega)
    have hRo := hRo.ex hex (by intro h; (try dsimp only [gfr] at h) <;> omega)
    clear h_qr
    obtain ⟨g, hg, -, hgs, hRa⟩ := hp
    have hRv := kn_shl hd (by omega) hsh hb13.1 (by omega) hgs
    have lt_qr := hRa.lt
    refine lv_goto (tgt := 323) hx hb dJ24_divideMagnitude_122 (by decide) ?_
    exact W.widen (by omega) (by omega) (cutS qv qm qr n sh e1 g (by omega) (by omega) (by omega) he1 hg hD2 hDv hsh hRv hsh0 H_66 _ hS hO hV hRo hRa hQo hQa ls (lv_sub hl [5, 6, 7, 8, 4, 3, 2, 0] rfl))
