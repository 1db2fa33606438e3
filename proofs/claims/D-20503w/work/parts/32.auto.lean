/-! ## small whole numbers; calls of overriding methods and through interfaces (written by tools/mk32.py) -/
set_option maxRecDepth 100000
theorem ai_add {x y : Int32} {a b : Nat} (hx : x = nI a) (hy : y = nI b) : x + y = nI (a + b) := by subst hx hy; exact nI_add a b
theorem ai_add0l {x y : Int32} {b : Nat} (hx : x = 0) (hy : y = nI b) : x + y = nI b := by subst hx hy; rw [show (0 : Int32) = nI 0 from rfl, nI_add, Nat.zero_add]
theorem ai_sub {x y : Int32} {a b : Nat} (hx : x = nI a) (hy : y = nI b) (h : b ≤ a) : x - y = nI (a - b) := by subst hx hy; exact pk_sub h
theorem ai_mul {x y : Int32} {a b : Nat} (hx : x = nI a) (hy : y = nI b) : x * y = nI (a * b) := by subst hx hy; exact pk_mul a b
theorem ai_div {x y : Int32} {a b : Nat} (hx : x = nI a) (hy : y = nI b) (ha : a < 2147483648) (h0 : 0 < b) (hb : b < 2147483648) : x / y = nI (a / b) := by subst hx hy; exact pk_div ha h0 hb
theorem ai_rem {x y : Int32} {a b : Nat} (hx : x = nI a) (hy : y = nI b) (ha : a < 2147483648) (h0 : 0 < b) (hb : b < 2147483648) : x - x / y * y = nI (a % b) := by subst hx hy; exact pk_rem ha h0 hb
theorem ai_dec {x y : Int32} {a : Nat} (hx : x = nI a) (hy : y = -1) (h : 1 ≤ a) : x + y = nI (a - 1) := by
  subst hx hy
  obtain ⟨b, rfl⟩ : ∃ b, a = b + 1 := ⟨a - 1, by omega⟩
  exact pk_m1 b
theorem ai_sbn {x y : Int32} {a b : Nat} (hx : x = nI a) (hy : y = -nI b) (h : b ≤ a) : x + y = nI (a - b) := by
  subst hx hy
  rw [← pk_sub h, Int32.sub_eq_add_neg]
theorem ai_addI {x y : Int32} {a b : Int} (hx : x = iI a) (hy : y = iI b) : x + y = iI (a + b) := by subst hx hy; exact iI_add
theorem ai_subI {x y : Int32} {a b : Int} (hx : x = iI a) (hy : y = iI b) : x - y = iI (a - b) := by subst hx hy; exact iI_sub
theorem ai_mulI {x y : Int32} {a b : Int} (hx : x = iI a) (hy : y = iI b) : x * y = iI (a * b) := by subst hx hy; exact iI_mul
theorem ai_negI {x : Int32} {a : Int} (hx : x = iI a) : -x = iI (-a) := by subst hx; exact iI_neg
theorem ai_addL {x y : Int64} {a b : Nat} (hx : x = lN a) (hy : y = lN b) : x + y = lN (a + b) := by subst hx hy; exact lN_add a b
theorem ai_subL {x y : Int64} {a b : Nat} (hx : x = lN a) (hy : y = lN b) (h : b ≤ a) : x - y = lN (a - b) := by subst hx hy; exact lN_sub h
theorem ai_mulL {x y : Int64} {a b : Nat} (hx : x = lN a) (hy : y = lN b) : x * y = lN (a * b) := by subst hx hy; exact lN_mul a b
theorem ai_addLI {x y : Int64} {a b : Int} (hx : x = lI a) (hy : y = lI b) : x + y = lI (a + b) := by subst hx hy; exact lI_add
theorem ai_subLI {x y : Int64} {a b : Int} (hx : x = lI a) (hy : y = lI b) : x - y = lI (a - b) := by subst hx hy; exact lI_sub
theorem ai_mulLI {x y : Int64} {a b : Int} (hx : x = lI a) (hy : y = lI b) : x * y = lI (a * b) := by subst hx hy; exact lI_mul
theorem ai_negLI {x : Int64} {a : Int} (hx : x = lI a) : -x = lI (-a) := by subst hx; exact neg_lI
theorem ai_i2l {x : Int32} {a : Nat} (hx : x = nI a) (h : a < 2147483648) : x.toInt64 = lN a := by subst hx; exact nI_l h
theorem ai_i2lI {x : Int32} {a : Int} (hx : x = iI a) (h1 : -2147483648 ≤ a) (h2 : a < 2147483648) : x.toInt64 = lI a := by
  subst hx
  apply Int64.toInt_inj.mp
  rw [Int32.toInt_toInt64, iI_toInt h1 h2, lI_toInt (by omega) (by omega)]
theorem ai_l2i {x : Int64} {a : Nat} (hx : x = lN a) : x.toInt32 = nI a := by subst hx; exact lN_i a
theorem ai_l2iI {x : Int64} {a : Int} (hx : x = lI a) : x.toInt32 = iI a := by subst hx; exact lI_i32
theorem ai_shl0 {x : Int32} {a : Nat} (hx : x = nI a) : x <<< ((0 : Int32) &&& 31) = nI a := by
  rw [show ((0 : Int32) &&& 31) = 0 by decide, Int32.shiftLeft_zero]
  exact hx
theorem ai_shr0 {x : Int32} {a : Nat} (hx : x = nI a) : x >>> ((0 : Int32) &&& 31) = nI a := by
  rw [show ((0 : Int32) &&& 31) = 0 by decide, Int32.shiftRight_zero]
  exact hx
theorem ai_shl {x y : Int32} {a : Nat} (hx : x = nI a) (k : Nat) (hk : k < 32) (hy : y = nI k) : x <<< (y &&& 31) = nI (a * 2 ^ k) := by
  subst hx hy
  apply Int32.toBitVec_inj.mp
  have e : (nI k &&& 31) = nI k := by
    have : ∀ k, k < 32 → (nI k &&& 31) = nI k := by decide +kernel
    exact this k hk
  rw [e, Int32.toBitVec_shiftLeft]
  have e2 : ((nI k).toBitVec.smod 32) = BitVec.ofNat 32 k := by
    have : ∀ k, k < 32 → ((nI k).toBitVec.smod 32) = BitVec.ofNat 32 k := by decide +kernel
    exact this k hk
  rw [e2]
  apply BitVec.eq_of_toNat_eq
  show ((BitVec.ofNat 32 a) <<< (BitVec.ofNat 32 k)).toNat = (BitVec.ofNat 32 (a * 2 ^ k)).toNat
  rw [BitVec.shiftLeft_eq', BitVec.toNat_shiftLeft, BitVec.toNat_ofNat, BitVec.toNat_ofNat, BitVec.toNat_ofNat, Nat.mod_eq_of_lt (show k < 2 ^ 32 by omega), Nat.shiftLeft_eq, Nat.mod_mul_mod]
theorem ai_shr {x y : Int32} {a : Nat} (hx : x = nI a) (k : Nat) (hk : k < 32) (hy : y = nI k) (ha : a < 2147483648) : x >>> (y &&& 31) = nI (a / 2 ^ k) := by
  subst hx hy
  apply Int32.toInt_inj.mp
  have e : (nI k &&& 31) = nI k := by
    have : ∀ k, k < 32 → (nI k &&& 31) = nI k := by decide +kernel
    exact this k hk
  have e2 : ((nI k).toBitVec.smod 32) = BitVec.ofNat 32 k := by
    have : ∀ k, k < 32 → ((nI k).toBitVec.smod 32) = BitVec.ofNat 32 k := by decide +kernel
    exact this k hk
  have hd : a / 2 ^ k ≤ a := Nat.div_le_self _ _
  rw [e, nI_toInt (by omega), ← Int32.toInt_toBitVec, Int32.toBitVec_shiftRight, e2]
  show ((nI a).toBitVec.sshiftRight (BitVec.ofNat 32 k).toNat).toInt = _
  rw [BitVec.toInt_sshiftRight, BitVec.toNat_ofNat, Nat.mod_eq_of_lt (show k < 2 ^ 32 by omega), Int32.toInt_toBitVec, nI_toInt (by omega), Int.shiftRight_eq_div_pow]
  rfl
theorem ai_shr1 {x : Int32} {a : Int} (hx : x = iI a) (h1 : -2147483648 ≤ a) (h2 : a < 2147483648) : x >>> ((1 : Int32) &&& 31) = iI (a / 2) := by
  subst hx
  apply Int32.toInt_inj.mp
  rw [show ((1 : Int32) &&& 31) = 1 by decide, iI_toInt (by omega) (by omega), ← Int32.toInt_toBitVec, Int32.toBitVec_shiftRight]
  show ((iI a).toBitVec.sshiftRight 1).toInt = _
  rw [BitVec.toInt_sshiftRight, Int32.toInt_toBitVec, iI_toInt h1 h2, Int.shiftRight_eq_div_pow]
  rfl
theorem ai_i2b {x : Int32} {a : Nat} (hx : x = nI a) (h : a < 128) : (x).toInt8.toInt32 = nI a := by subst hx; exact b8 a h
theorem ai_i2c {x : Int32} {a : Nat} (hx : x = nI a) (h : a < 128) : ((x).toUInt32 % 65536).toInt32 = nI a := by
  subst hx
  have : ∀ a, a < 128 → ((nI a).toUInt32 % 65536).toInt32 = nI a := by decide +kernel
  exact this a h
theorem ai_lt {x y : Int32} {a b : Nat} (hx : x = nI a) (hy : y = nI b) (ha : a < 2147483648) (hb : b < 2147483648) : x < y ↔ a < b := by subst hx hy; exact nI_ltI ha hb
theorem ai_le {x y : Int32} {a b : Nat} (hx : x = nI a) (hy : y = nI b) (ha : a < 2147483648) (hb : b < 2147483648) : x ≤ y ↔ a ≤ b := by subst hx hy; exact nI_leI ha hb
theorem ai_eq {x y : Int32} {a b : Nat} (hx : x = nI a) (hy : y = nI b) (ha : a < 2147483648) (hb : b < 2147483648) : x = y ↔ a = b := by subst hx hy; exact nI_eq ha hb
theorem ai_ltI {x y : Int32} {a b : Int} (hx : x = iI a) (hy : y = iI b) (h1 : -2147483648 ≤ a) (h2 : a < 2147483648) (h3 : -2147483648 ≤ b) (h4 : b < 2147483648) : x < y ↔ a < b := by
  subst hx hy
  rw [Int32.lt_iff_toInt_lt, iI_toInt h1 h2, iI_toInt h3 h4]
theorem ai_leI {x y : Int32} {a b : Int} (hx : x = iI a) (hy : y = iI b) (h1 : -2147483648 ≤ a) (h2 : a < 2147483648) (h3 : -2147483648 ≤ b) (h4 : b < 2147483648) : x ≤ y ↔ a ≤ b := by
  subst hx hy
  rw [Int32.le_iff_toInt_le, iI_toInt h1 h2, iI_toInt h3 h4]
theorem ai_eqI {x y : Int32} {a b : Int} (hx : x = iI a) (hy : y = iI b) (h1 : -2147483648 ≤ a) (h2 : a < 2147483648) (h3 : -2147483648 ≤ b) (h4 : b < 2147483648) : x = y ↔ a = b := by
  subst hx hy
  rw [← Int32.toInt_inj, iI_toInt h1 h2, iI_toInt h3 h4]
theorem ai_min {x y : Int32} {a b : Nat} (hx : x = nI a) (hy : y = nI b) (ha : a < 2147483648) (hb : b < 2147483648) : (if y < x then y else x) = nI (min a b) := by subst hx hy; exact nI_min ha hb
theorem ai_max {x y : Int32} {a b : Nat} (hx : x = nI a) (hy : y = nI b) (ha : a < 2147483648) (hb : b < 2147483648) : (if x < y then y else x) = nI (max a b) := by subst hx hy; exact nI_max ha hb
section CMPL
variable {x y : Int64} {a b : Int}
theorem ai_clt (hx : x = lI a) (hy : y = lI b) (h1 : -9223372036854775808 ≤ a) (h2 : a < 9223372036854775808) (h3 : -9223372036854775808 ≤ b) (h4 : b < 9223372036854775808) : lg_cmp x y < 0 ↔ a < b := by
  subst hx hy; rw [lc_lt, lI_toInt h1 h2, lI_toInt h3 h4]
theorem ai_cle (hx : x = lI a) (hy : y = lI b) (h1 : -9223372036854775808 ≤ a) (h2 : a < 9223372036854775808) (h3 : -9223372036854775808 ≤ b) (h4 : b < 9223372036854775808) : lg_cmp x y ≤ 0 ↔ a ≤ b := by
  subst hx hy; rw [lc_le, lI_toInt h1 h2, lI_toInt h3 h4]
theorem ai_ceq (hx : x = lI a) (hy : y = lI b) (h1 : -9223372036854775808 ≤ a) (h2 : a < 9223372036854775808) (h3 : -9223372036854775808 ≤ b) (h4 : b < 9223372036854775808) : lg_cmp x y = 0 ↔ a = b := by
  subst hx hy; rw [lc_eq, lI_toInt h1 h2, lI_toInt h3 h4]
theorem ai_cge (hx : x = lI a) (hy : y = lI b) (h1 : -9223372036854775808 ≤ a) (h2 : a < 9223372036854775808) (h3 : -9223372036854775808 ≤ b) (h4 : b < 9223372036854775808) : 0 ≤ lg_cmp x y ↔ b ≤ a := by
  subst hx hy; rw [lc_ge, lI_toInt h1 h2, lI_toInt h3 h4]
theorem ai_cgt (hx : x = lI a) (hy : y = lI b) (h1 : -9223372036854775808 ≤ a) (h2 : a < 9223372036854775808) (h3 : -9223372036854775808 ≤ b) (h4 : b < 9223372036854775808) : 0 < lg_cmp x y ↔ b < a := by
  subst hx hy; rw [lc_gt, lI_toInt h1 h2, lI_toInt h3 h4]
end CMPL
theorem lw_list4 {a b c d : Cond} (h1 : a ∈ lw_all) (h2 : b ∈ lw_all) (h3 : c ∈ lw_all) (h4 : d ∈ lw_all) : ∀ w ∈ ([a, b, c, d] : List Cond), w ∈ lw_all := by
  intro w h
  simp only [List.mem_cons, List.not_mem_nil, or_false] at h
  rcases h with h | h | h | h <;> subst h <;> assumption
theorem lw_list6 {a b c d e f : Cond} (h1 : a ∈ lw_all) (h2 : b ∈ lw_all) (h3 : c ∈ lw_all) (h4 : d ∈ lw_all) (h5 : e ∈ lw_all) (h6 : f ∈ lw_all) : ∀ w ∈ ([a, b, c, d, e, f] : List Cond), w ∈ lw_all := by
  intro w h
  simp only [List.mem_cons, List.not_mem_nil, or_false] at h
  rcases h with h | h | h | h | h | h <;> subst h <;> assumption
section GCX
variable {p : Program} {l : Launch} {e : Env} {R : Room} {s : State} {m : MethodId} {args : Array Value} {below : List Frame} {meth : Method} {c : Code} {H : Heap} {locs : List Loc} {cells slots : Nat} {Q : State → Prop}
variable {cc : ByteArray} {pc : Nat} {ls : Array Slot} {rest st0 : List Value} {z : State} {A0 A1 : Nat → Prop} {H0 : Heap} {mc ms nL index maxL : Nat} {own C : String} {y : MethodName} {bytes : ByteArray} {ret : Option FieldType} {rm : Room} {aa : Array Value} {b a : Nat}
/-- a cast of an array to its own class -/
theorem gw_castA (hexec : p.tables.exec = Jvm.exec) (hb : c.code = cc) (hal : z.vm.Alike s.vm) {own nm : String} {index n : Nat} (hown : s.vm.findClass own = some m.cls) (hlink : (Cond.classLink own index nm).before args s = true) {ty : FieldType} {f : Nat → Value} (hO : gA z true ty H a n f) (hnm : nm = "[" ++ ty.toString) (hdg : decode cc pc = .ok (.checkcast index, 3))
    (k : W p l e R s m args below meth c H locs cells slots Q (F0 m (pc + 3) ls (.ref a :: rest))) : W p l e R s m args below meth c H locs cells slots Q (F0 m pc ls (.ref a :: rest)) := by
  obtain ⟨cell, h1, h2, h3, h4, h5, h6, h7⟩ := hO
  obtain ⟨hvm0, hsz, hcn⟩ := h7 rfl
  have hn : s.vm.findClass nm = some cell.cls := by rw [hnm, hal.findClass]; exact hcn
  intro T hT X
  obtain ⟨vm', X', st⟩ := X.checkcastYes hexec hown hlink (by rw [hT]; exact h1) (by rw [hvm0]; rfl) hn (va_asg _ _) (g := F0 m pc ls (.ref a :: rest)) rfl rfl (by rw [hb]; exact hdg)
  obtain ⟨t, a1, b1⟩ := k (T.setVm vm') hT X'
  exact ⟨t, st t a1, b1⟩
theorem g_run5P_i {post : Int32 → Prop} (hr : va_Run5 p l e R s m args below meth c H locs cells slots 0 0 (F0 m pc ls st0) rest (gPi H post aa) gno)
    (kk : ∀ r : Int32, post r → W p l e R s m args below meth c H locs cells slots Q (F0 m (pc + 5) ls (.int r :: rest))) : W p l e R s m args below meth c H locs cells slots Q (F0 m pc ls st0) := by
  intro T hT X
  obtain ⟨v, st₀, t, T', L, h0, X', hL, e1, e2, ⟨⟨r, hv, hp⟩, hz⟩, st⟩ := hr T hT X
  cases hv
  rw [g_locs hL] at X'
  obtain ⟨t2, a1, b1⟩ := kk r hp T' (by rw [e1, hz]) X'
  exact ⟨t2, st t2 a1, b1⟩
theorem gcX0_iP {fr lo : Nat} {owner : String} {x : MethodName} {post : Int32 → Prop} (hCF : CallFix p m c cc nL s args lw_all own) (hwm : z.WarmedH s.vm) (hls : ls.size = nL) (hM : Met l y (ws_ y bytes maxL ret) { frames := fr, cells := 0, slots := 0, locals := lo } (gPc z H [.ref b]) (gPi H post) 0 0 gno) (cw : va_CU R s args own C owner index x y bytes maxL ret (ws_ y bytes maxL ret) { frames := fr, cells := 0, slots := 0, locals := lo } 0 0 0) (hrc : ∃ cell : Cell, H[b]? = some cell ∧ cell.vm.isStatics = false ∧ s.vm.findClass C = some cell.cls) (hf : cells ≤ R.cells ∧ slots ≤ R.slots) (h8 : (rest.map fun v => v.category).sum ≤ 8) (hdg : decode cc pc = .ok (.invokevirtual index, 3))
    (kk : ∀ r : Int32, post r → W p l e R s m args below meth c H locs cells slots Q (F0 m (pc + 3) ls (.int r :: rest))) : W p l e R s m args below meth c H locs cells slots Q (F0 m pc ls (.ref b :: rest)) :=
  g_runP_i (va_runU (As := []) (rest := rest) hCF hM cw ⟨gPc.blind, hrc, fun U hU hW => g_pre hwm U hU hW⟩ rfl rfl hls rfl (lv_room h8) hdg hf) kk
theorem gcX0_i {fr lo : Nat} {owner : String} {x : MethodName} {post : Int32 → Heap → Prop} (hCF : CallFix p m c cc nL s args lw_all own) (hwm : z.WarmedH s.vm) (hls : ls.size = nL) (hM : Met l y (ws_ y bytes maxL ret) { frames := fr, cells := mc, slots := ms, locals := lo } (gPc z H [.ref b]) (gRi A1 H post) mc ms A1) (cw : va_CU R s args own C owner index x y bytes maxL ret (ws_ y bytes maxL ret) { frames := fr, cells := mc, slots := ms, locals := lo } mc ms 0) (hrc : ∃ cell : Cell, H[b]? = some cell ∧ cell.vm.isStatics = false ∧ s.vm.findClass C = some cell.cls) (hS : va_S A0 H0 H locs) (hA : ∀ q, A1 q → A0 q) (hf : cells + mc ≤ R.cells ∧ slots + ms ≤ R.slots) (h8 : (rest.map fun v => v.category).sum ≤ 8) (hdg : decode cc pc = .ok (.invokevirtual index, 3))
    (kk : ∀ (r : Int32) (H1 : Heap) (locs1 : List Loc), post r H1 → gex A1 H H1 → va_S A0 H0 H1 locs1 → W p l e R s m args below meth c H1 locs1 (cells + mc) (slots + ms) Q (F0 m (pc + 3) ls (.int r :: rest))) : W p l e R s m args below meth c H locs cells slots Q (F0 m pc ls (.ref b :: rest)) :=
  g_run_i (va_runU (As := []) (rest := rest) hCF hM cw ⟨gPc.blind, hrc, fun U hU hW => g_pre hwm U hU hW⟩ rfl rfl hls rfl (lv_room h8) hdg hf) hS hA kk
theorem gcX0_lP {fr lo : Nat} {owner : String} {x : MethodName} {post : Int64 → Prop} (hCF : CallFix p m c cc nL s args lw_all own) (hwm : z.WarmedH s.vm) (hls : ls.size = nL) (hM : Met l y (ws_ y bytes maxL ret) { frames := fr, cells := 0, slots := 0, locals := lo } (gPc z H [.ref b]) (gPl H post) 0 0 gno) (cw : va_CU R s args own C owner index x y bytes maxL ret (ws_ y bytes maxL ret) { frames := fr, cells := 0, slots := 0, locals := lo } 0 0 0) (hrc : ∃ cell : Cell, H[b]? = some cell ∧ cell.vm.isStatics = false ∧ s.vm.findClass C = some cell.cls) (hf : cells ≤ R.cells ∧ slots ≤ R.slots) (h8 : (rest.map fun v => v.category).sum ≤ 8) (hdg : decode cc pc = .ok (.invokevirtual index, 3))
    (kk : ∀ r : Int64, post r → W p l e R s m args below meth c H locs cells slots Q (F0 m (pc + 3) ls (.long r :: rest))) : W p l e R s m args below meth c H locs cells slots Q (F0 m pc ls (.ref b :: rest)) :=
  g_runP_l (va_runU (As := []) (rest := rest) hCF hM cw ⟨gPc.blind, hrc, fun U hU hW => g_pre hwm U hU hW⟩ rfl rfl hls rfl (lv_room h8) hdg hf) kk
theorem gcX0_l {fr lo : Nat} {owner : String} {x : MethodName} {post : Int64 → Heap → Prop} (hCF : CallFix p m c cc nL s args lw_all own) (hwm : z.WarmedH s.vm) (hls : ls.size = nL) (hM : Met l y (ws_ y bytes maxL ret) { frames := fr, cells := mc, slots := ms, locals := lo } (gPc z H [.ref b]) (gRl A1 H post) mc ms A1) (cw : va_CU R s args own C owner index x y bytes maxL ret (ws_ y bytes maxL ret) { frames := fr, cells := mc, slots := ms, locals := lo } mc ms 0) (hrc : ∃ cell : Cell, H[b]? = some cell ∧ cell.vm.isStatics = false ∧ s.vm.findClass C = some cell.cls) (hS : va_S A0 H0 H locs) (hA : ∀ q, A1 q → A0 q) (hf : cells + mc ≤ R.cells ∧ slots + ms ≤ R.slots) (h8 : (rest.map fun v => v.category).sum ≤ 8) (hdg : decode cc pc = .ok (.invokevirtual index, 3))
    (kk : ∀ (r : Int64) (H1 : Heap) (locs1 : List Loc), post r H1 → gex A1 H H1 → va_S A0 H0 H1 locs1 → W p l e R s m args below meth c H1 locs1 (cells + mc) (slots + ms) Q (F0 m (pc + 3) ls (.long r :: rest))) : W p l e R s m args below meth c H locs cells slots Q (F0 m pc ls (.ref b :: rest)) :=
  g_run_l (va_runU (As := []) (rest := rest) hCF hM cw ⟨gPc.blind, hrc, fun U hU hW => g_pre hwm U hU hW⟩ rfl rfl hls rfl (lv_room h8) hdg hf) hS hA kk
theorem gcX0_rP {fr lo : Nat} {owner : String} {x : MethodName} {post : Nat → Prop} (hCF : CallFix p m c cc nL s args lw_all own) (hwm : z.WarmedH s.vm) (hls : ls.size = nL) (hM : Met l y (ws_ y bytes maxL ret) { frames := fr, cells := 0, slots := 0, locals := lo } (gPc z H [.ref b]) (gPr H post) 0 0 gno) (cw : va_CU R s args own C owner index x y bytes maxL ret (ws_ y bytes maxL ret) { frames := fr, cells := 0, slots := 0, locals := lo } 0 0 0) (hrc : ∃ cell : Cell, H[b]? = some cell ∧ cell.vm.isStatics = false ∧ s.vm.findClass C = some cell.cls) (hf : cells ≤ R.cells ∧ slots ≤ R.slots) (h8 : (rest.map fun v => v.category).sum ≤ 8) (hdg : decode cc pc = .ok (.invokevirtual index, 3))
    (kk : ∀ r : Nat, post r → W p l e R s m args below meth c H locs cells slots Q (F0 m (pc + 3) ls (.ref r :: rest))) : W p l e R s m args below meth c H locs cells slots Q (F0 m pc ls (.ref b :: rest)) :=
  g_runP_r (va_runU (As := []) (rest := rest) hCF hM cw ⟨gPc.blind, hrc, fun U hU hW => g_pre hwm U hU hW⟩ rfl rfl hls rfl (lv_room h8) hdg hf) kk
theorem gcX0_r {fr lo : Nat} {owner : String} {x : MethodName} {post : Nat → Heap → Prop} (hCF : CallFix p m c cc nL s args lw_all own) (hwm : z.WarmedH s.vm) (hls : ls.size = nL) (hM : Met l y (ws_ y bytes maxL ret) { frames := fr, cells := mc, slots := ms, locals := lo } (gPc z H [.ref b]) (gRr A1 H post) mc ms A1) (cw : va_CU R s args own C owner index x y bytes maxL ret (ws_ y bytes maxL ret) { frames := fr, cells := mc, slots := ms, locals := lo } mc ms 0) (hrc : ∃ cell : Cell, H[b]? = some cell ∧ cell.vm.isStatics = false ∧ s.vm.findClass C = some cell.cls) (hS : va_S A0 H0 H locs) (hA : ∀ q, A1 q → A0 q) (hf : cells + mc ≤ R.cells ∧ slots + ms ≤ R.slots) (h8 : (rest.map fun v => v.category).sum ≤ 8) (hdg : decode cc pc = .ok (.invokevirtual index, 3))
    (kk : ∀ (r : Nat) (H1 : Heap) (locs1 : List Loc), post r H1 → gex A1 H H1 → va_S A0 H0 H1 locs1 → W p l e R s m args below meth c H1 locs1 (cells + mc) (slots + ms) Q (F0 m (pc + 3) ls (.ref r :: rest))) : W p l e R s m args below meth c H locs cells slots Q (F0 m pc ls (.ref b :: rest)) :=
  g_run_r (va_runU (As := []) (rest := rest) hCF hM cw ⟨gPc.blind, hrc, fun U hU hW => g_pre hwm U hU hW⟩ rfl rfl hls rfl (lv_room h8) hdg hf) hS hA kk
theorem gcX0_vP {fr lo : Nat} {owner : String} {x : MethodName} {post : Prop} (hCF : CallFix p m c cc nL s args lw_all own) (hwm : z.WarmedH s.vm) (hls : ls.size = nL) (hM : Met l y (ws_ y bytes maxL ret) { frames := fr, cells := 0, slots := 0, locals := lo } (gPc z H [.ref b]) (gPv H post) 0 0 gno) (cw : va_CU R s args own C owner index x y bytes maxL ret (ws_ y bytes maxL ret) { frames := fr, cells := 0, slots := 0, locals := lo } 0 0 0) (hrc : ∃ cell : Cell, H[b]? = some cell ∧ cell.vm.isStatics = false ∧ s.vm.findClass C = some cell.cls) (hf : cells ≤ R.cells ∧ slots ≤ R.slots) (h8 : (rest.map fun v => v.category).sum ≤ 8) (hdg : decode cc pc = .ok (.invokevirtual index, 3))
    (kk : post → W p l e R s m args below meth c H locs cells slots Q (F0 m (pc + 3) ls (rest))) : W p l e R s m args below meth c H locs cells slots Q (F0 m pc ls (.ref b :: rest)) :=
  g_runP_v (va_runU (As := []) (rest := rest) hCF hM cw ⟨gPc.blind, hrc, fun U hU hW => g_pre hwm U hU hW⟩ rfl rfl hls rfl (lv_room h8) hdg hf) kk
theorem gcX0_v {fr lo : Nat} {owner : String} {x : MethodName} {post : Heap → Prop} (hCF : CallFix p m c cc nL s args lw_all own) (hwm : z.WarmedH s.vm) (hls : ls.size = nL) (hM : Met l y (ws_ y bytes maxL ret) { frames := fr, cells := mc, slots := ms, locals := lo } (gPc z H [.ref b]) (gRv A1 H post) mc ms A1) (cw : va_CU R s args own C owner index x y bytes maxL ret (ws_ y bytes maxL ret) { frames := fr, cells := mc, slots := ms, locals := lo } mc ms 0) (hrc : ∃ cell : Cell, H[b]? = some cell ∧ cell.vm.isStatics = false ∧ s.vm.findClass C = some cell.cls) (hS : va_S A0 H0 H locs) (hA : ∀ q, A1 q → A0 q) (hf : cells + mc ≤ R.cells ∧ slots + ms ≤ R.slots) (h8 : (rest.map fun v => v.category).sum ≤ 8) (hdg : decode cc pc = .ok (.invokevirtual index, 3))
    (kk : ∀ (H1 : Heap) (locs1 : List Loc), post H1 → gex A1 H H1 → va_S A0 H0 H1 locs1 → W p l e R s m args below meth c H1 locs1 (cells + mc) (slots + ms) Q (F0 m (pc + 3) ls (rest))) : W p l e R s m args below meth c H locs cells slots Q (F0 m pc ls (.ref b :: rest)) :=
  g_run_v (va_runU (As := []) (rest := rest) hCF hM cw ⟨gPc.blind, hrc, fun U hU hW => g_pre hwm U hU hW⟩ rfl rfl hls rfl (lv_room h8) hdg hf) hS hA kk
theorem gcX1_iP {fr lo : Nat} {v1 : Value} {owner : String} {x : MethodName} {post : Int32 → Prop} (hCF : CallFix p m c cc nL s args lw_all own) (hwm : z.WarmedH s.vm) (hls : ls.size = nL) (hM : Met l y (ws_ y bytes maxL ret) { frames := fr, cells := 0, slots := 0, locals := lo } (gPc z H [.ref b, v1]) (gPi H post) 0 0 gno) (cw : va_CU R s args own C owner index x y bytes maxL ret (ws_ y bytes maxL ret) { frames := fr, cells := 0, slots := 0, locals := lo } 0 0 1) (hrc : ∃ cell : Cell, H[b]? = some cell ∧ cell.vm.isStatics = false ∧ s.vm.findClass C = some cell.cls) (hf : cells ≤ R.cells ∧ slots ≤ R.slots) (h8 : (rest.map fun v => v.category).sum ≤ 8) (hdg : decode cc pc = .ok (.invokevirtual index, 3))
    (kk : ∀ r : Int32, post r → W p l e R s m args below meth c H locs cells slots Q (F0 m (pc + 3) ls (.int r :: rest))) : W p l e R s m args below meth c H locs cells slots Q (F0 m pc ls (v1 :: .ref b :: rest)) :=
  g_runP_i (va_runU (As := [v1]) (rest := rest) hCF hM cw ⟨gPc.blind, hrc, fun U hU hW => g_pre hwm U hU hW⟩ rfl rfl hls rfl (lv_room h8) hdg hf) kk
theorem gcX1_i {fr lo : Nat} {v1 : Value} {owner : String} {x : MethodName} {post : Int32 → Heap → Prop} (hCF : CallFix p m c cc nL s args lw_all own) (hwm : z.WarmedH s.vm) (hls : ls.size = nL) (hM : Met l y (ws_ y bytes maxL ret) { frames := fr, cells := mc, slots := ms, locals := lo } (gPc z H [.ref b, v1]) (gRi A1 H post) mc ms A1) (cw : va_CU R s args own C owner index x y bytes maxL ret (ws_ y bytes maxL ret) { frames := fr, cells := mc, slots := ms, locals := lo } mc ms 1) (hrc : ∃ cell : Cell, H[b]? = some cell ∧ cell.vm.isStatics = false ∧ s.vm.findClass C = some cell.cls) (hS : va_S A0 H0 H locs) (hA : ∀ q, A1 q → A0 q) (hf : cells + mc ≤ R.cells ∧ slots + ms ≤ R.slots) (h8 : (rest.map fun v => v.category).sum ≤ 8) (hdg : decode cc pc = .ok (.invokevirtual index, 3))
    (kk : ∀ (r : Int32) (H1 : Heap) (locs1 : List Loc), post r H1 → gex A1 H H1 → va_S A0 H0 H1 locs1 → W p l e R s m args below meth c H1 locs1 (cells + mc) (slots + ms) Q (F0 m (pc + 3) ls (.int r :: rest))) : W p l e R s m args below meth c H locs cells slots Q (F0 m pc ls (v1 :: .ref b :: rest)) :=
  g_run_i (va_runU (As := [v1]) (rest := rest) hCF hM cw ⟨gPc.blind, hrc, fun U hU hW => g_pre hwm U hU hW⟩ rfl rfl hls rfl (lv_room h8) hdg hf) hS hA kk
theorem gcX1_lP {fr lo : Nat} {v1 : Value} {owner : String} {x : MethodName} {post : Int64 → Prop} (hCF : CallFix p m c cc nL s args lw_all own) (hwm : z.WarmedH s.vm) (hls : ls.size = nL) (hM : Met l y (ws_ y bytes maxL ret) { frames := fr, cells := 0, slots := 0, locals := lo } (gPc z H [.ref b, v1]) (gPl H post) 0 0 gno) (cw : va_CU R s args own C owner index x y bytes maxL ret (ws_ y bytes maxL ret) { frames := fr, cells := 0, slots := 0, locals := lo } 0 0 1) (hrc : ∃ cell : Cell, H[b]? = some cell ∧ cell.vm.isStatics = false ∧ s.vm.findClass C = some cell.cls) (hf : cells ≤ R.cells ∧ slots ≤ R.slots) (h8 : (rest.map fun v => v.category).sum ≤ 8) (hdg : decode cc pc = .ok (.invokevirtual index, 3))
    (kk : ∀ r : Int64, post r → W p l e R s m args below meth c H locs cells slots Q (F0 m (pc + 3) ls (.long r :: rest))) : W p l e R s m args below meth c H locs cells slots Q (F0 m pc ls (v1 :: .ref b :: rest)) :=
  g_runP_l (va_runU (As := [v1]) (rest := rest) hCF hM cw ⟨gPc.blind, hrc, fun U hU hW => g_pre hwm U hU hW⟩ rfl rfl hls rfl (lv_room h8) hdg hf) kk
theorem gcX1_l {fr lo : Nat} {v1 : Value} {owner : String} {x : MethodName} {post : Int64 → Heap → Prop} (hCF : CallFix p m c cc nL s args lw_all own) (hwm : z.WarmedH s.vm) (hls : ls.size = nL) (hM : Met l y (ws_ y bytes maxL ret) { frames := fr, cells := mc, slots := ms, locals := lo } (gPc z H [.ref b, v1]) (gRl A1 H post) mc ms A1) (cw : va_CU R s args own C owner index x y bytes maxL ret (ws_ y bytes maxL ret) { frames := fr, cells := mc, slots := ms, locals := lo } mc ms 1) (hrc : ∃ cell : Cell, H[b]? = some cell ∧ cell.vm.isStatics = false ∧ s.vm.findClass C = some cell.cls) (hS : va_S A0 H0 H locs) (hA : ∀ q, A1 q → A0 q) (hf : cells + mc ≤ R.cells ∧ slots + ms ≤ R.slots) (h8 : (rest.map fun v => v.category).sum ≤ 8) (hdg : decode cc pc = .ok (.invokevirtual index, 3))
    (kk : ∀ (r : Int64) (H1 : Heap) (locs1 : List Loc), post r H1 → gex A1 H H1 → va_S A0 H0 H1 locs1 → W p l e R s m args below meth c H1 locs1 (cells + mc) (slots + ms) Q (F0 m (pc + 3) ls (.long r :: rest))) : W p l e R s m args below meth c H locs cells slots Q (F0 m pc ls (v1 :: .ref b :: rest)) :=
  g_run_l (va_runU (As := [v1]) (rest := rest) hCF hM cw ⟨gPc.blind, hrc, fun U hU hW => g_pre hwm U hU hW⟩ rfl rfl hls rfl (lv_room h8) hdg hf) hS hA kk
theorem gcX1_rP {fr lo : Nat} {v1 : Value} {owner : String} {x : MethodName} {post : Nat → Prop} (hCF : CallFix p m c cc nL s args lw_all own) (hwm : z.WarmedH s.vm) (hls : ls.size = nL) (hM : Met l y (ws_ y bytes maxL ret) { frames := fr, cells := 0, slots := 0, locals := lo } (gPc z H [.ref b, v1]) (gPr H post) 0 0 gno) (cw : va_CU R s args own C owner index x y bytes maxL ret (ws_ y bytes maxL ret) { frames := fr, cells := 0, slots := 0, locals := lo } 0 0 1) (hrc : ∃ cell : Cell, H[b]? = some cell ∧ cell.vm.isStatics = false ∧ s.vm.findClass C = some cell.cls) (hf : cells ≤ R.cells ∧ slots ≤ R.slots) (h8 : (rest.map fun v => v.category).sum ≤ 8) (hdg : decode cc pc = .ok (.invokevirtual index, 3))
    (kk : ∀ r : Nat, post r → W p l e R s m args below meth c H locs cells slots Q (F0 m (pc + 3) ls (.ref r :: rest))) : W p l e R s m args below meth c H locs cells slots Q (F0 m pc ls (v1 :: .ref b :: rest)) :=
  g_runP_r (va_runU (As := [v1]) (rest := rest) hCF hM cw ⟨gPc.blind, hrc, fun U hU hW => g_pre hwm U hU hW⟩ rfl rfl hls rfl (lv_room h8) hdg hf) kk
theorem gcX1_r {fr lo : Nat} {v1 : Value} {owner : String} {x : MethodName} {post : Nat → Heap → Prop} (hCF : CallFix p m c cc nL s args lw_all own) (hwm : z.WarmedH s.vm) (hls : ls.size = nL) (hM : Met l y (ws_ y bytes maxL ret) { frames := fr, cells := mc, slots := ms, locals := lo } (gPc z H [.ref b, v1]) (gRr A1 H post) mc ms A1) (cw : va_CU R s args own C owner index x y bytes maxL ret (ws_ y bytes maxL ret) { frames := fr, cells := mc, slots := ms, locals := lo } mc ms 1) (hrc : ∃ cell : Cell, H[b]? = some cell ∧ cell.vm.isStatics = false ∧ s.vm.findClass C = some cell.cls) (hS : va_S A0 H0 H locs) (hA : ∀ q, A1 q → A0 q) (hf : cells + mc ≤ R.cells ∧ slots + ms ≤ R.slots) (h8 : (rest.map fun v => v.category).sum ≤ 8) (hdg : decode cc pc = .ok (.invokevirtual index, 3))
    (kk : ∀ (r : Nat) (H1 : Heap) (locs1 : List Loc), post r H1 → gex A1 H H1 → va_S A0 H0 H1 locs1 → W p l e R s m args below meth c H1 locs1 (cells + mc) (slots + ms) Q (F0 m (pc + 3) ls (.ref r :: rest))) : W p l e R s m args below meth c H locs cells slots Q (F0 m pc ls (v1 :: .ref b :: rest)) :=
  g_run_r (va_runU (As := [v1]) (rest := rest) hCF hM cw ⟨gPc.blind, hrc, fun U hU hW => g_pre hwm U hU hW⟩ rfl rfl hls rfl (lv_room h8) hdg hf) hS hA kk
theorem gcX1_vP {fr lo : Nat} {v1 : Value} {owner : String} {x : MethodName} {post : Prop} (hCF : CallFix p m c cc nL s args lw_all own) (hwm : z.WarmedH s.vm) (hls : ls.size = nL) (hM : Met l y (ws_ y bytes maxL ret) { frames := fr, cells := 0, slots := 0, locals := lo } (gPc z H [.ref b, v1]) (gPv H post) 0 0 gno) (cw : va_CU R s args own C owner index x y bytes maxL ret (ws_ y bytes maxL ret) { frames := fr, cells := 0, slots := 0, locals := lo } 0 0 1) (hrc : ∃ cell : Cell, H[b]? = some cell ∧ cell.vm.isStatics = false ∧ s.vm.findClass C = some cell.cls) (hf : cells ≤ R.cells ∧ slots ≤ R.slots) (h8 : (rest.map fun v => v.category).sum ≤ 8) (hdg : decode cc pc = .ok (.invokevirtual index, 3))
    (kk : post → W p l e R s m args below meth c H locs cells slots Q (F0 m (pc + 3) ls (rest))) : W p l e R s m args below meth c H locs cells slots Q (F0 m pc ls (v1 :: .ref b :: rest)) :=
  g_runP_v (va_runU (As := [v1]) (rest := rest) hCF hM cw ⟨gPc.blind, hrc, fun U hU hW => g_pre hwm U hU hW⟩ rfl rfl hls rfl (lv_room h8) hdg hf) kk
theorem gcX1_v {fr lo : Nat} {v1 : Value} {owner : String} {x : MethodName} {post : Heap → Prop} (hCF : CallFix p m c cc nL s args lw_all own) (hwm : z.WarmedH s.vm) (hls : ls.size = nL) (hM : Met l y (ws_ y bytes maxL ret) { frames := fr, cells := mc, slots := ms, locals := lo } (gPc z H [.ref b, v1]) (gRv A1 H post) mc ms A1) (cw : va_CU R s args own C owner index x y bytes maxL ret (ws_ y bytes maxL ret) { frames := fr, cells := mc, slots := ms, locals := lo } mc ms 1) (hrc : ∃ cell : Cell, H[b]? = some cell ∧ cell.vm.isStatics = false ∧ s.vm.findClass C = some cell.cls) (hS : va_S A0 H0 H locs) (hA : ∀ q, A1 q → A0 q) (hf : cells + mc ≤ R.cells ∧ slots + ms ≤ R.slots) (h8 : (rest.map fun v => v.category).sum ≤ 8) (hdg : decode cc pc = .ok (.invokevirtual index, 3))
    (kk : ∀ (H1 : Heap) (locs1 : List Loc), post H1 → gex A1 H H1 → va_S A0 H0 H1 locs1 → W p l e R s m args below meth c H1 locs1 (cells + mc) (slots + ms) Q (F0 m (pc + 3) ls (rest))) : W p l e R s m args below meth c H locs cells slots Q (F0 m pc ls (v1 :: .ref b :: rest)) :=
  g_run_v (va_runU (As := [v1]) (rest := rest) hCF hM cw ⟨gPc.blind, hrc, fun U hU hW => g_pre hwm U hU hW⟩ rfl rfl hls rfl (lv_room h8) hdg hf) hS hA kk
theorem gcX2_iP {fr lo : Nat} {v1 v2 : Value} {owner : String} {x : MethodName} {post : Int32 → Prop} (hCF : CallFix p m c cc nL s args lw_all own) (hwm : z.WarmedH s.vm) (hls : ls.size = nL) (hM : Met l y (ws_ y bytes maxL ret) { frames := fr, cells := 0, slots := 0, locals := lo } (gPc z H [.ref b, v1, v2]) (gPi H post) 0 0 gno) (cw : va_CU R s args own C owner index x y bytes maxL ret (ws_ y bytes maxL ret) { frames := fr, cells := 0, slots := 0, locals := lo } 0 0 2) (hrc : ∃ cell : Cell, H[b]? = some cell ∧ cell.vm.isStatics = false ∧ s.vm.findClass C = some cell.cls) (hf : cells ≤ R.cells ∧ slots ≤ R.slots) (h8 : (rest.map fun v => v.category).sum ≤ 8) (hdg : decode cc pc = .ok (.invokevirtual index, 3))
    (kk : ∀ r : Int32, post r → W p l e R s m args below meth c H locs cells slots Q (F0 m (pc + 3) ls (.int r :: rest))) : W p l e R s m args below meth c H locs cells slots Q (F0 m pc ls (v2 :: v1 :: .ref b :: rest)) :=
  g_runP_i (va_runU (As := [v1, v2]) (rest := rest) hCF hM cw ⟨gPc.blind, hrc, fun U hU hW => g_pre hwm U hU hW⟩ rfl rfl hls rfl (lv_room h8) hdg hf) kk
theorem gcX2_i {fr lo : Nat} {v1 v2 : Value} {owner : String} {x : MethodName} {post : Int32 → Heap → Prop} (hCF : CallFix p m c cc nL s args lw_all own) (hwm : z.WarmedH s.vm) (hls : ls.size = nL) (hM : Met l y (ws_ y bytes maxL ret) { frames := fr, cells := mc, slots := ms, locals := lo } (gPc z H [.ref b, v1, v2]) (gRi A1 H post) mc ms A1) (cw : va_CU R s args own C owner index x y bytes maxL ret (ws_ y bytes maxL ret) { frames := fr, cells := mc, slots := ms, locals := lo } mc ms 2) (hrc : ∃ cell : Cell, H[b]? = some cell ∧ cell.vm.isStatics = false ∧ s.vm.findClass C = some cell.cls) (hS : va_S A0 H0 H locs) (hA : ∀ q, A1 q → A0 q) (hf : cells + mc ≤ R.cells ∧ slots + ms ≤ R.slots) (h8 : (rest.map fun v => v.category).sum ≤ 8) (hdg : decode cc pc = .ok (.invokevirtual index, 3))
    (kk : ∀ (r : Int32) (H1 : Heap) (locs1 : List Loc), post r H1 → gex A1 H H1 → va_S A0 H0 H1 locs1 → W p l e R s m args below meth c H1 locs1 (cells + mc) (slots + ms) Q (F0 m (pc + 3) ls (.int r :: rest))) : W p l e R s m args below meth c H locs cells slots Q (F0 m pc ls (v2 :: v1 :: .ref b :: rest)) :=
  g_run_i (va_runU (As := [v1, v2]) (rest := rest) hCF hM cw ⟨gPc.blind, hrc, fun U hU hW => g_pre hwm U hU hW⟩ rfl rfl hls rfl (lv_room h8) hdg hf) hS hA kk
theorem gcX2_lP {fr lo : Nat} {v1 v2 : Value} {owner : String} {x : MethodName} {post : Int64 → Prop} (hCF : CallFix p m c cc nL s args lw_all own) (hwm : z.WarmedH s.vm) (hls : ls.size = nL) (hM : Met l y (ws_ y bytes maxL ret) { frames := fr, cells := 0, slots := 0, locals := lo } (gPc z H [.ref b, v1, v2]) (gPl H post) 0 0 gno) (cw : va_CU R s args own C owner index x y bytes maxL ret (ws_ y bytes maxL ret) { frames := fr, cells := 0, slots := 0, locals := lo } 0 0 2) (hrc : ∃ cell : Cell, H[b]? = some cell ∧ cell.vm.isStatics = false ∧ s.vm.findClass C = some cell.cls) (hf : cells ≤ R.cells ∧ slots ≤ R.slots) (h8 : (rest.map fun v => v.category).sum ≤ 8) (hdg : decode cc pc = .ok (.invokevirtual index, 3))
    (kk : ∀ r : Int64, post r → W p l e R s m args below meth c H locs cells slots Q (F0 m (pc + 3) ls (.long r :: rest))) : W p l e R s m args below meth c H locs cells slots Q (F0 m pc ls (v2 :: v1 :: .ref b :: rest)) :=
  g_runP_l (va_runU (As := [v1, v2]) (rest := rest) hCF hM cw ⟨gPc.blind, hrc, fun U hU hW => g_pre hwm U hU hW⟩ rfl rfl hls rfl (lv_room h8) hdg hf) kk
theorem gcX2_l {fr lo : Nat} {v1 v2 : Value} {owner : String} {x : MethodName} {post : Int64 → Heap → Prop} (hCF : CallFix p m c cc nL s args lw_all own) (hwm : z.WarmedH s.vm) (hls : ls.size = nL) (hM : Met l y (ws_ y bytes maxL ret) { frames := fr, cells := mc, slots := ms, locals := lo } (gPc z H [.ref b, v1, v2]) (gRl A1 H post) mc ms A1) (cw : va_CU R s args own C owner index x y bytes maxL ret (ws_ y bytes maxL ret) { frames := fr, cells := mc, slots := ms, locals := lo } mc ms 2) (hrc : ∃ cell : Cell, H[b]? = some cell ∧ cell.vm.isStatics = false ∧ s.vm.findClass C = some cell.cls) (hS : va_S A0 H0 H locs) (hA : ∀ q, A1 q → A0 q) (hf : cells + mc ≤ R.cells ∧ slots + ms ≤ R.slots) (h8 : (rest.map fun v => v.category).sum ≤ 8) (hdg : decode cc pc = .ok (.invokevirtual index, 3))
    (kk : ∀ (r : Int64) (H1 : Heap) (locs1 : List Loc), post r H1 → gex A1 H H1 → va_S A0 H0 H1 locs1 → W p l e R s m args below meth c H1 locs1 (cells + mc) (slots + ms) Q (F0 m (pc + 3) ls (.long r :: rest))) : W p l e R s m args below meth c H locs cells slots Q (F0 m pc ls (v2 :: v1 :: .ref b :: rest)) :=
  g_run_l (va_runU (As := [v1, v2]) (rest := rest) hCF hM cw ⟨gPc.blind, hrc, fun U hU hW => g_pre hwm U hU hW⟩ rfl rfl hls rfl (lv_room h8) hdg hf) hS hA kk
theorem gcX2_rP {fr lo : Nat} {v1 v2 : Value} {owner : String} {x : MethodName} {post : Nat → Prop} (hCF : CallFix p m c cc nL s args lw_all own) (hwm : z.WarmedH s.vm) (hls : ls.size = nL) (hM : Met l y (ws_ y bytes maxL ret) { frames := fr, cells := 0, slots := 0, locals := lo } (gPc z H [.ref b, v1, v2]) (gPr H post) 0 0 gno) (cw : va_CU R s args own C owner index x y bytes maxL ret (ws_ y bytes maxL ret) { frames := fr, cells := 0, slots := 0, locals := lo } 0 0 2) (hrc : ∃ cell : Cell, H[b]? = some cell ∧ cell.vm.isStatics = false ∧ s.vm.findClass C = some cell.cls) (hf : cells ≤ R.cells ∧ slots ≤ R.slots) (h8 : (rest.map fun v => v.category).sum ≤ 8) (hdg : decode cc pc = .ok (.invokevirtual index, 3))
    (kk : ∀ r : Nat, post r → W p l e R s m args below meth c H locs cells slots Q (F0 m (pc + 3) ls (.ref r :: rest))) : W p l e R s m args below meth c H locs cells slots Q (F0 m pc ls (v2 :: v1 :: .ref b :: rest)) :=
  g_runP_r (va_runU (As := [v1, v2]) (rest := rest) hCF hM cw ⟨gPc.blind, hrc, fun U hU hW => g_pre hwm U hU hW⟩ rfl rfl hls rfl (lv_room h8) hdg hf) kk
theorem gcX2_r {fr lo : Nat} {v1 v2 : Value} {owner : String} {x : MethodName} {post : Nat → Heap → Prop} (hCF : CallFix p m c cc nL s args lw_all own) (hwm : z.WarmedH s.vm) (hls : ls.size = nL) (hM : Met l y (ws_ y bytes maxL ret) { frames := fr, cells := mc, slots := ms, locals := lo } (gPc z H [.ref b, v1, v2]) (gRr A1 H post) mc ms A1) (cw : va_CU R s args own C owner index x y bytes maxL ret (ws_ y bytes maxL ret) { frames := fr, cells := mc, slots := ms, locals := lo } mc ms 2) (hrc : ∃ cell : Cell, H[b]? = some cell ∧ cell.vm.isStatics = false ∧ s.vm.findClass C = some cell.cls) (hS : va_S A0 H0 H locs) (hA : ∀ q, A1 q → A0 q) (hf : cells + mc ≤ R.cells ∧ slots + ms ≤ R.slots) (h8 : (rest.map fun v => v.category).sum ≤ 8) (hdg : decode cc pc = .ok (.invokevirtual index, 3))
    (kk : ∀ (r : Nat) (H1 : Heap) (locs1 : List Loc), post r H1 → gex A1 H H1 → va_S A0 H0 H1 locs1 → W p l e R s m args below meth c H1 locs1 (cells + mc) (slots + ms) Q (F0 m (pc + 3) ls (.ref r :: rest))) : W p l e R s m args below meth c H locs cells slots Q (F0 m pc ls (v2 :: v1 :: .ref b :: rest)) :=
  g_run_r (va_runU (As := [v1, v2]) (rest := rest) hCF hM cw ⟨gPc.blind, hrc, fun U hU hW => g_pre hwm U hU hW⟩ rfl rfl hls rfl (lv_room h8) hdg hf) hS hA kk
theorem gcX2_vP {fr lo : Nat} {v1 v2 : Value} {owner : String} {x : MethodName} {post : Prop} (hCF : CallFix p m c cc nL s args lw_all own) (hwm : z.WarmedH s.vm) (hls : ls.size = nL) (hM : Met l y (ws_ y bytes maxL ret) { frames := fr, cells := 0, slots := 0, locals := lo } (gPc z H [.ref b, v1, v2]) (gPv H post) 0 0 gno) (cw : va_CU R s args own C owner index x y bytes maxL ret (ws_ y bytes maxL ret) { frames := fr, cells := 0, slots := 0, locals := lo } 0 0 2) (hrc : ∃ cell : Cell, H[b]? = some cell ∧ cell.vm.isStatics = false ∧ s.vm.findClass C = some cell.cls) (hf : cells ≤ R.cells ∧ slots ≤ R.slots) (h8 : (rest.map fun v => v.category).sum ≤ 8) (hdg : decode cc pc = .ok (.invokevirtual index, 3))
    (kk : post → W p l e R s m args below meth c H locs cells slots Q (F0 m (pc + 3) ls (rest))) : W p l e R s m args below meth c H locs cells slots Q (F0 m pc ls (v2 :: v1 :: .ref b :: rest)) :=
  g_runP_v (va_runU (As := [v1, v2]) (rest := rest) hCF hM cw ⟨gPc.blind, hrc, fun U hU hW => g_pre hwm U hU hW⟩ rfl rfl hls rfl (lv_room h8) hdg hf) kk
theorem gcX2_v {fr lo : Nat} {v1 v2 : Value} {owner : String} {x : MethodName} {post : Heap → Prop} (hCF : CallFix p m c cc nL s args lw_all own) (hwm : z.WarmedH s.vm) (hls : ls.size = nL) (hM : Met l y (ws_ y bytes maxL ret) { frames := fr, cells := mc, slots := ms, locals := lo } (gPc z H [.ref b, v1, v2]) (gRv A1 H post) mc ms A1) (cw : va_CU R s args own C owner index x y bytes maxL ret (ws_ y bytes maxL ret) { frames := fr, cells := mc, slots := ms, locals := lo } mc ms 2) (hrc : ∃ cell : Cell, H[b]? = some cell ∧ cell.vm.isStatics = false ∧ s.vm.findClass C = some cell.cls) (hS : va_S A0 H0 H locs) (hA : ∀ q, A1 q → A0 q) (hf : cells + mc ≤ R.cells ∧ slots + ms ≤ R.slots) (h8 : (rest.map fun v => v.category).sum ≤ 8) (hdg : decode cc pc = .ok (.invokevirtual index, 3))
    (kk : ∀ (H1 : Heap) (locs1 : List Loc), post H1 → gex A1 H H1 → va_S A0 H0 H1 locs1 → W p l e R s m args below meth c H1 locs1 (cells + mc) (slots + ms) Q (F0 m (pc + 3) ls (rest))) : W p l e R s m args below meth c H locs cells slots Q (F0 m pc ls (v2 :: v1 :: .ref b :: rest)) :=
  g_run_v (va_runU (As := [v1, v2]) (rest := rest) hCF hM cw ⟨gPc.blind, hrc, fun U hU hW => g_pre hwm U hU hW⟩ rfl rfl hls rfl (lv_room h8) hdg hf) hS hA kk
theorem gcF0_iP {fr lo count : Nat} {x : MethodName} {cC : ClassId} (hat : ClassAt s C cC) {post : Int32 → Prop} (hCF : CallFix p m c cc nL s args lw_all own) (hwm : z.WarmedH s.vm) (hls : ls.size = nL) (hM : Met l y (ws_ y bytes maxL ret) { frames := fr, cells := 0, slots := 0, locals := lo } (gPc z H [.ref b]) (gPi H post) 0 0 gno) (cw : va_CI R s args own C index x y bytes maxL ret (ws_ y bytes maxL ret) { frames := fr, cells := 0, slots := 0, locals := lo } 0 0 0) (hrc : ∃ cell : Cell, H[b]? = some cell ∧ cell.vm.isStatics = false ∧ s.vm.findClass C = some cell.cls) (hf : cells ≤ R.cells ∧ slots ≤ R.slots) (h8 : (rest.map fun v => v.category).sum ≤ 8) (hdg : decode cc pc = .ok (.invokeinterface index count, 5))
    (kk : ∀ r : Int32, post r → W p l e R s m args below meth c H locs cells slots Q (F0 m (pc + 5) ls (.int r :: rest))) : W p l e R s m args below meth c H locs cells slots Q (F0 m pc ls (.ref b :: rest)) :=
  g_run5P_i (va_runF (As := []) (rest := rest) hat hCF hM cw ⟨gPc.blind, hrc, fun U hU hW => g_pre hwm U hU hW⟩ rfl rfl hls rfl (lv_room h8) hdg hf) kk
theorem gcF1_iP {fr lo count : Nat} {v1 : Value} {x : MethodName} {cC : ClassId} (hat : ClassAt s C cC) {post : Int32 → Prop} (hCF : CallFix p m c cc nL s args lw_all own) (hwm : z.WarmedH s.vm) (hls : ls.size = nL) (hM : Met l y (ws_ y bytes maxL ret) { frames := fr, cells := 0, slots := 0, locals := lo } (gPc z H [.ref b, v1]) (gPi H post) 0 0 gno) (cw : va_CI R s args own C index x y bytes maxL ret (ws_ y bytes maxL ret) { frames := fr, cells := 0, slots := 0, locals := lo } 0 0 1) (hrc : ∃ cell : Cell, H[b]? = some cell ∧ cell.vm.isStatics = false ∧ s.vm.findClass C = some cell.cls) (hf : cells ≤ R.cells ∧ slots ≤ R.slots) (h8 : (rest.map fun v => v.category).sum ≤ 8) (hdg : decode cc pc = .ok (.invokeinterface index count, 5))
    (kk : ∀ r : Int32, post r → W p l e R s m args below meth c H locs cells slots Q (F0 m (pc + 5) ls (.int r :: rest))) : W p l e R s m args below meth c H locs cells slots Q (F0 m pc ls (v1 :: .ref b :: rest)) :=
  g_run5P_i (va_runF (As := [v1]) (rest := rest) hat hCF hM cw ⟨gPc.blind, hrc, fun U hU hW => g_pre hwm U hU hW⟩ rfl rfl hls rfl (lv_room h8) hdg hf) kk
end GCX
