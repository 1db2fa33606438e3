/-! ## more rows: statics, copies, clones, tops -/
set_option maxRecDepth 100000
/-- a static field's value, that nobody in A writes -/
abbrev gZ (z : State) (C n d : String) (v : Value) (A : Nat → Prop) (H : Heap) : Prop := va_Z C n d v A z H
theorem gZ.call {z : State} {C n d : String} {v : Value} {A A1 : Nat → Prop} {H0 H : Heap} {locs : List Loc} (h : gZ z C n d v A H0) (hS : va_S A H0 H locs) (hA : ∀ q, A1 q → A q) : gZ z C n d v A1 H := (va_Z.kept h hS.2.1).narrow hA
theorem lw_list5 {a b c d e : Cond} (h1 : a ∈ lw_all) (h2 : b ∈ lw_all) (h3 : c ∈ lw_all) (h4 : d ∈ lw_all) (h5 : e ∈ lw_all) : ∀ w ∈ ([a, b, c, d, e] : List Cond), w ∈ lw_all := by
  intro w h
  simp only [List.mem_cons, List.not_mem_nil, or_false] at h
  rcases h with h | h | h | h | h <;> subst h <;> assumption
theorem w_classAt {s : State} {args : Array Value} {C : String} {n : Nat} (hts : ∀ w ∈ lw_all, w.before args s = true) (h : Cond.instantiable C n ∈ lw_all) : ∃ cC, ClassAt s C cC := by
  obtain ⟨cC, kC, hfc, hk, hkind, -⟩ := Cond.instantiable_spec (hts _ h)
  exact ⟨cC, hfc, kC, hk, hkind⟩
theorem fits_byte8 (x : Int32) : fits .byte (.int x.toInt8.toInt32) = true := pk_fb x
section GR2
variable {p : Program} {l : Launch} {e : Env} {R : Room} {s : State} {m : MethodId} {args : Array Value} {below : List Frame} {meth : Method} {c : Code} {H : Heap} {locs : List Loc} {cells slots : Nat} {Q : State → Prop}
variable {cc : ByteArray} {pc : Nat} {ls : Array Slot} {rest : List Value} {z : State} {A : Nat → Prop} {a n : Nat} {H0 : Heap} {wf : Bool}
theorem g_topi {x v : Int32} (h : x = v) (k : W p l e R s m args below meth c H locs cells slots Q (F0 m pc ls (.int v :: rest))) : W p l e R s m args below meth c H locs cells slots Q (F0 m pc ls (.int x :: rest)) := h ▸ k
theorem g_topl {x v : Int64} (h : x = v) (k : W p l e R s m args below meth c H locs cells slots Q (F0 m pc ls (.long v :: rest))) : W p l e R s m args below meth c H locs cells slots Q (F0 m pc ls (.long x :: rest)) := h ▸ k
theorem g_topd {x v : UInt64} (h : x = v) (k : W p l e R s m args below meth c H locs cells slots Q (F0 m pc ls (.double v :: rest))) : W p l e R s m args below meth c H locs cells slots Q (F0 m pc ls (.double x :: rest)) := h ▸ k
theorem g_topr {x v : Nat} (h : x = v) (k : W p l e R s m args below meth c H locs cells slots Q (F0 m pc ls (.ref v :: rest))) : W p l e R s m args below meth c H locs cells slots Q (F0 m pc ls (.ref x :: rest)) := h ▸ k
theorem lv_topr {x : Nat} (k : ∀ y : Nat, y = x → W p l e R s m args below meth c H locs cells slots Q (F0 m pc ls (.ref y :: rest))) : W p l e R s m args below meth c H locs cells slots Q (F0 m pc ls (.ref x :: rest)) := k x rfl
theorem gw_getsP (hexec : p.tables.exec = Jvm.exec) (hb : c.code = cc) (hal : z.vm.Alike s.vm) {C n d own ref : String} {v : Value} {index : Nat} (hZ : gZ z C n d v A H) (hown : s.vm.findClass own = some m.cls) (hlink : (Cond.fieldLink own index ref n d).before args s = true) (hsame : ∀ x, s.fieldFound? C n d = some x → s.fieldFound? ref n d = some x) (hdg : decode cc pc = .ok (.getstatic index, 3))
    (kk : W p l e R s m args below meth c H locs cells slots Q (F0 m (pc + 3) ls (v :: rest))) : W p l e R s m args below meth c H locs cells slots Q (F0 m pc ls rest) := by
  obtain ⟨cf, kf, fi, f, a, cell, h1, h2, h3, h4, h5, h6, h7, h8⟩ := va_Z.moved hal hZ
  exact W.gets hexec hb hown hlink (hsame _ h1) h2 h3 h4 h5 (fun e => by rw [e] at h6; cases h6) h7 rfl hdg kk
theorem gw_gets (hexec : p.tables.exec = Jvm.exec) (hb : c.code = cc) (hal : z.vm.Alike s.vm) {C n d own ref : String} {v : Value} {index : Nat} (hZ : gZ z C n d v A H0) (hS : va_S A H0 H locs) (hown : s.vm.findClass own = some m.cls) (hlink : (Cond.fieldLink own index ref n d).before args s = true) (hsame : ∀ x, s.fieldFound? C n d = some x → s.fieldFound? ref n d = some x) (hdg : decode cc pc = .ok (.getstatic index, 3))
    (kk : W p l e R s m args below meth c H locs cells slots Q (F0 m (pc + 3) ls (v :: rest))) : W p l e R s m args below meth c H locs cells slots Q (F0 m pc ls rest) :=
  gw_getsP hexec hb hal (va_Z.kept hZ hS.2.1) hown hlink hsame hdg kk
theorem g_nn (x : Int32) (k : Nat) (hx : x = nI k) (h : k < 2 ^ 31) : ¬ x < 0 ∧ x.toNatClampNeg = k ∧ x.toInt = (k : Int) := by
  subst hx
  exact ⟨nI_pos h, nI_clamp h, nI_toInt h⟩
/-- System.arraycopy of bytes, ints .. -/
theorem gw_copy (hexec : p.tables.exec = Jvm.exec) (hb : c.code = cc) (hml : c.maxLocals = ls.size) (hal : z.vm.Alike s.vm) {own : String} {index : Nat} (hown : s.vm.findClass own = some m.cls) (hlink : (Cond.methodLink own index arraycopyName).before args s = true) (hnat : (Cond.native arraycopyName).before args s = true) (hstat : (Cond.static arraycopyName).before args s = true) (hini : (Cond.initialized "java/lang/System").before args s = true)
    {ty : FieldType} (hty : refKind ty = false) {w1 w2 : Bool} {b n1 : Nat} {f g : Nat → Int32} (hX : gI z w1 ty H b n f) (hY : gI z w2 ty H a n1 g) (hS : va_S A H0 H locs) (hA : A a) {x1 x2 x3 : Int32} (sp dp k : Nat) (e1 : x1 = nI sp) (e2 : x2 = nI dp) (e3 : x3 = nI k) (h4 : sp + k ≤ n) (h5 : dp + k ≤ n1) (hn : n < 2 ^ 31) (hn1 : n1 < 2 ^ 31)
    (hfit : ∀ i : Nat, i < k → fits ty (.int (f (sp + i))) = true) (hframes : 1 ≤ R.frames) (hlocals : (rest.map fun v => v.category).sum + (nativeFrameWords "java/lang/System" "arraycopy" 5 + 11) ≤ R.locals) (hdg : decode cc pc = .ok (.invokestatic index, 3))
    (kk : ∀ (H1 : Heap) (locs1 : List Loc), gI z w2 ty H1 a n1 (va_cpy f g sp dp k) → gch a H H1 → va_S A H0 H1 locs1 → W p l e R s m args below meth c H1 locs1 cells slots Q (F0 m (pc + 3) ls rest)) : W p l e R s m args below meth c H locs cells slots Q (F0 m pc ls (.int x3 :: .int x2 :: .ref a :: .int x1 :: .ref b :: rest)) := by
  intro T hT X
  obtain ⟨p1, q1, r1⟩ := g_nn x1 sp e1 (by omega)
  obtain ⟨p2, q2, r2⟩ := g_nn x2 dp e2 (by omega)
  obtain ⟨p3, q3, r3⟩ := g_nn x3 k e3 (by omega)
  obtain ⟨cs, hs1, hs2, hs3, hs4, -, hs5, -⟩ := hX
  obtain ⟨cd, hd1, hd2, hd3, hd4, hd5, hd6, hd7⟩ := hY
  obtain ⟨hs6, k0, hk0, cm0, hkk0⟩ := State.isArrayOf_alike hal hs2
  obtain ⟨hd8, k1, hk1, cm1, hkk1⟩ := State.isArrayOf_alike hal hd2
  obtain ⟨vm', X', step⟩ := X.arraycopy hexec hown hlink hnat hstat hini (src := b) (dst := a) (cs := cs) (cd := cd) (srcPos := x1) (destPos := x2) (n := x3) (by rw [hT]; exact hs1) (by rw [hT]; exact hd1)
    hs6 hd8 hs3 hd3 hk0 hk1 hkk0 hkk1 (by simp [hty]) p1 p2 p3 (by rw [r1, r3]; omega) (by rw [r2, r3]; omega)
    (fun vm₁ _ i hi => by
      rw [q3] at hi
      have e : cs.slots.getD (x1.toNatClampNeg + i) .null = .int (f (sp + i)) := by
        rw [q1, Array.getD_eq_getD_getElem?, hs5 _ (by omega)]
        rfl
      exact ⟨by rw [e]; exact hfit i hi, by rw [e]; exact trivial⟩)
    (g := F0 m pc ls (.int x3 :: .int x2 :: .ref a :: .int x1 :: .ref b :: rest)) rfl (by rw [hml]) (rest := rest) rfl (by rw [hb]; exact hdg) hframes (by show 2 * 0 + _ + _ ≤ _; omega)
  have hl : a < H.size := (Array.getElem?_eq_some_iff.mp hd1).1
  have hlen : (cs.stretch x1.toNatClampNeg x3.toNatClampNeg).length = k := by simp [Cell.stretch, q3]
  obtain ⟨f1, f2, f3, -, -⟩ := Cell.storeRun_facts cd x2.toNatClampNeg (cs.stretch x1.toNatClampNeg x3.toNatClampNeg)
  have hget : ∀ j, j < n1 → (copied cs cd x1 x2 x3).slots[j]? = some (.int (va_cpy f g sp dp k j)) := by
    intro j hj
    show (cd.storeRun x2.toNatClampNeg (cs.stretch x1.toNatClampNeg x3.toNatClampNeg)).slots[j]? = _
    rw [Cell.storeRun_get _ _ _ _ (by rw [hlen, q2]; omega), hlen, q2]
    by_cases hc : dp ≤ j ∧ j < dp + k
    · rw [if_pos hc]
      simp only [Cell.stretch, q1, q3]
      rw [List.getElem?_map, List.getElem?_range (by omega)]
      simp only [Option.map_some, va_cpy, if_pos hc]
      rw [Array.getD_eq_getD_getElem?, hs5 _ (by omega)]
      rfl
    · rw [if_neg hc, hd6 j hj]
      simp only [va_cpy, if_neg hc]
  have hheap : ((T.setVm vm').setCell a (copied cs cd x1 x2 x3)).heap = H.setIfInBounds a (copied cs cd x1 x2 x3) := by rw [← hT]; rfl
  have oq : ∀ q : Nat, q ≠ a → (H.setIfInBounds a (copied cs cd x1 x2 x3))[q]? = H[q]? := fun q hq => by simp [Array.getElem?_setIfInBounds, Ne.symm hq]
  obtain ⟨t, a1, b1⟩ := kk _ _ ⟨copied cs cd x1 x2 x3, by simp [hl], ⟨fun q hq => hd2.1 q (by rw [← hq]; exact f2.symm), by rw [show (copied cs cd x1 x2 x3).cls = cd.cls from f1]; exact hd2.2⟩, by rw [show (copied cs cd x1 x2 x3).vm = cd.vm from f2]; exact hd3, by rw [show (copied cs cd x1 x2 x3).slots.size = cd.slots.size from f3]; exact hd4, by rw [show (copied cs cd x1 x2 x3).slots.size = cd.slots.size from f3]; exact hd5, hget, fun w => by rw [show (copied cs cd x1 x2 x3).slots.size = cd.slots.size from f3, show (copied cs cd x1 x2 x3).vm = cd.vm from f2, show (copied cs cd x1 x2 x3).cls = cd.cls from f1]; exact hd7 w⟩
    ⟨by simp, oq⟩ ⟨by simp; exact hS.1, fun q g1 g2 => by
      rw [oq q (fun e => g2 (by rw [e]; exact hA))]
      exact hS.2.1 q g1 g2, fun q hq => by
      rcases List.mem_append.mp hq with h | h
      · exact hS.2.2 q h
      · obtain ⟨zz, -, hz⟩ := List.mem_map.mp h
        rw [← hz]
        exact hA⟩ _ hheap X'
  exact ⟨t, step t a1, b1⟩
/-- clone() of an array of numbers that this run has made -/
theorem gw_clone (hexec : p.tables.exec = Jvm.exec) (hb : c.code = cc) (hml : c.maxLocals = ls.size) (hal : z.vm.Alike s.vm) {own ad : String} {index : Nat} (hown : s.vm.findClass own = some m.cls)
    (hlink : (Cond.methodLink own index ⟨ad, "clone", "()Ljava/lang/Object;"⟩).before args s = true) (hsame : (Cond.sameMethod ad "java/lang/Object" "clone" "()Ljava/lang/Object;").before args s = true)
    (hnat : (Cond.native ⟨"java/lang/Object", "clone", "()Ljava/lang/Object;"⟩).before args s = true) (hinst : (Cond.instanceMethod ⟨"java/lang/Object", "clone", "()Ljava/lang/Object;"⟩).before args s = true)
    (hsel : (Cond.selects ad ⟨ad, "clone", "()Ljava/lang/Object;"⟩ ⟨"java/lang/Object", "clone", "()Ljava/lang/Object;"⟩).before args s = true) (hcl : (Cond.castable ad "java/lang/Cloneable").before args s = true)
    {ty : FieldType} (had : ad = "[" ++ ty.toString) {f : Nat → Value} (hX : gA z true ty H a n f) (hS : va_S A H0 H locs) (hfit : ∀ i : Nat, i < n → fits ty (f i) = true)
    (hframes : 1 ≤ R.frames) (hlocals : (rest.map fun v => v.category).sum + 14 ≤ R.locals) (hcells : cells + 1 ≤ R.cells) (hslots : slots + n ≤ R.slots) (hdg : decode cc pc = .ok (.invokevirtual index, 3))
    (kk : ∀ (q : Nat) (H1 : Heap), q = H.size → H1.size = q + 1 → gx H H1 → gA z true ty H1 q n f → va_S A H0 H1 locs →
      W p l e R s m args below meth c H1 locs (cells + 1) (slots + n) Q (F0 m (pc + 3) ls (.ref q :: rest))) : W p l e R s m args below meth c H locs cells slots Q (F0 m pc ls (.ref a :: rest)) := by
  obtain ⟨cell, h1, h2, h3, h4, h5, h6, h7⟩ := hX
  obtain ⟨hvm0, hsz, hcn⟩ := h7 rfl
  have hnm : s.vm.findClass ad = some cell.cls := by
    rw [had, hal.findClass]
    exact hcn
  obtain ⟨c0, t0', f1, f2, f3⟩ := Cond.castable_spec hcl
  cases hnm.symm.trans f1
  intro T hT X
  have hcellT : T.heap[a]? = some cell := by rw [hT]; exact h1
  obtain ⟨-, kA, hkA, comp, hkind⟩ := State.isArrayOf_alike (hal.trans X.warmed.alike) h2
  obtain ⟨-, kS, hkS, compS, hkindS⟩ := State.isArrayOf_alike hal h2
  obtain ⟨vm', X', st⟩ := X.cloneArray hexec hown hlink hsame hnat hinst hsel (a := a) (cell := cell) hcellT (fun k h => by rw [hvm0] at h; cases h) h3 hnm f2 f3
    (fun i v hv => by
      have hk' : T.vm.classes[cell.cls]? = some kA := hkA
      have hi : i < n := by
        have := (Array.getElem?_eq_some_iff.mp hv).1
        omega
      have e := h6 i hi
      rw [hv] at e
      cases e
      simpa [State.fitsSlot, State.slotType?, hk', hkind] using hfit i hi)
    (g := F0 m pc ls (.ref a :: rest)) rfl (by rw [hml]) rfl (by rw [hb]; exact hdg) hframes (by show 2 * 0 + _ + 14 ≤ _; omega) hcells (by rw [hsz]; exact hslots) (hloader := Vm.clonesLoader_of_array hkS hkindS)
  rw [hsz] at X'
  generalize hH1 : H.push ({ cls := cell.cls, slots := cell.slots } : Cell) = H1
  have z1 : H1.size = H.size + 1 := by rw [← hH1, Array.size_push]
  have e1 : H1[H.size]? = some ({ cls := cell.cls, slots := cell.slots } : Cell) := by rw [← hH1, Array.getElem?_push_size]
  have o1 : ∀ q : Nat, q < H.size → H1[q]? = H[q]? := fun q hq => by rw [← hH1, Array.getElem?_push, if_neg (Nat.ne_of_lt hq)]
  have hx : gx H H1 := ⟨by omega, o1⟩
  obtain ⟨t, b1, b2⟩ := kk H.size H1 rfl z1 hx ⟨_, e1, ⟨fun k h => (by cases h), h2.2⟩, (by intro h; cases h), h4, h5, h6, fun _ => ⟨rfl, hsz, hcn⟩⟩ (hS.gx hx) _ (by rw [← hH1, ← hT]; rfl) X'
  refine ⟨t, ?_, b2⟩
  have e := st t
  rw [hT] at e
  exact e b1
end GR2
