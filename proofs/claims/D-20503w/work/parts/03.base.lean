/-! ## the base: facts on single cells, by a base state z; rows over them -/
set_option maxRecDepth 100000
/-- an array cell of n places with the values f; w: it is a plain one, of just that length (one that this run has made) -/
def gA (z : State) (w : Bool) (ty : FieldType) (H : Heap) (b n : Nat) (f : Nat → Value) : Prop :=
  ∃ cell : Cell, H[b]? = some cell ∧ z.isArrayOf cell ty ∧ cell.vm ≠ .unknown ∧ n ≤ cell.slots.size ∧ cell.slots.size.toInt32 = Int32.ofNat n ∧ (∀ j, j < n → cell.slots[j]? = some (f j)) ∧
    (w = true → cell.vm = .none ∧ cell.slots.size = n ∧ z.vm.findClass ("[" ++ ty.toString) = some cell.cls)
abbrev gI (z : State) (w : Bool) (ty : FieldType) (H : Heap) (b n : Nat) (f : Nat → Int32) : Prop := gA z w ty H b n (fun j => .int (f j))
abbrev gL (z : State) (w : Bool) (H : Heap) (b n : Nat) (f : Nat → Int64) : Prop := gA z w .long H b n (fun j => .long (f j))
abbrev gD (z : State) (w : Bool) (H : Heap) (b n : Nat) (f : Nat → UInt64) : Prop := gA z w .double H b n (fun j => .double (f j))
/-- an object of the class C with its fields' values; w: a plain one -/
def gO (z : State) (w : Bool) (C : String) (T : u_T) (N : Nat) (H : Heap) (a : Nat) (fs : List Value) : Prop :=
  ∃ cell : Cell, H[a]? = some cell ∧ cell.vm ≠ .unknown ∧ cell.vm.isStatics = false ∧ z.vm.findClass C = some cell.cls ∧ (∀ k, k < N → ∃ i, SlotIs z (T k).1 (T k).2.1 (T k).2.2.1 i ∧ cell.slots[i]? = some (vp_V fs k)) ∧ (w = true → cell.vm = .none)
/-- the heap has grown, and what was there is as it was -/
def gx (H H1 : Heap) : Prop := H.size ≤ H1.size ∧ ∀ q : Nat, q < H.size → H1[q]? = H[q]?
/-- one cell alone has changed -/
def gch (a : Nat) (H H1 : Heap) : Prop := H1.size = H.size ∧ ∀ q : Nat, q ≠ a → H1[q]? = H[q]?
/-- what isn't in A is as it was -/
def gex (A : Nat → Prop) (H H1 : Heap) : Prop := H.size ≤ H1.size ∧ ∀ q : Nat, q < H.size → ¬ A q → H1[q]? = H[q]?
abbrev gno : Nat → Prop := fun _ => False
abbrev gfr (H : Heap) : Nat → Prop := fun q => H.size ≤ q
theorem gx.rf {H : Heap} : gx H H := ⟨Nat.le_refl _, fun _ _ => rfl⟩
theorem gx.tr {H H1 H2 : Heap} (h : gx H H1) (h2 : gx H1 H2) : gx H H2 := ⟨Nat.le_trans h.1 h2.1, fun q hq => (h2.2 q (Nat.lt_of_lt_of_le hq h.1)).trans (h.2 q hq)⟩
theorem gx.ex {A : Nat → Prop} {H H1 : Heap} (h : gx H H1) : gex A H H1 := ⟨h.1, fun q hq _ => h.2 q hq⟩
theorem gex.x {H H1 : Heap} (h : gex (gfr H) H H1) : gx H H1 := ⟨h.1, fun q hq => h.2 q hq (Nat.not_le.mpr hq)⟩
theorem gch.ex {A : Nat → Prop} {a : Nat} {H H1 : Heap} (h : gch a H H1) (ha : A a) : gex A H H1 := ⟨Nat.le_of_eq h.1.symm, fun q _ hq => h.2 q (fun e => hq (by rw [e]; exact ha))⟩
theorem gex.tr {A : Nat → Prop} {H H1 H2 : Heap} (h : gex A H H1) (h2 : gex A H1 H2) : gex A H H2 := ⟨Nat.le_trans h.1 h2.1, fun q hq ha => (h2.2 q (Nat.lt_of_lt_of_le hq h.1) ha).trans (h.2 q hq ha)⟩
theorem gex.mono {A B : Nat → Prop} {H H1 : Heap} (h : gex A H H1) (hAB : ∀ q, q < H.size → A q → B q) : gex B H H1 := ⟨h.1, fun q hq hb => h.2 q hq (fun ha => hb (hAB q hq ha))⟩
section GF
variable {z : State} {w : Bool} {ty : FieldType} {H H1 : Heap} {a b n N : Nat} {f g : Nat → Value} {C : String} {T : u_T} {fs : List Value} {A : Nat → Prop}
theorem gA.lt (h : gA z w ty H b n f) : b < H.size := by
  obtain ⟨cell, h1, -⟩ := h
  exact (Array.getElem?_eq_some_iff.mp h1).1
theorem gA.to (h : gA z w ty H b n f) (h1 : H1[b]? = H[b]?) : gA z w ty H1 b n f := by
  obtain ⟨cell, q, r⟩ := h
  exact ⟨cell, by rw [h1]; exact q, r⟩
theorem gA.x (h : gA z w ty H b n f) (h1 : gx H H1) : gA z w ty H1 b n f := h.to (h1.2 _ h.lt)
theorem gA.ch (h : gA z w ty H b n f) (h1 : gch a H H1) (hb : b ≠ a) : gA z w ty H1 b n f := h.to (h1.2 _ hb)
theorem gA.ex (h : gA z w ty H b n f) (h1 : gex A H H1) (hb : ¬ A b) : gA z w ty H1 b n f := h.to (h1.2 _ h.lt hb)
theorem gA.cg (h : gA z w ty H b n f) (hf : ∀ j, j < n → f j = g j) : gA z w ty H b n g := by
  obtain ⟨cell, q1, q2, q3, q4, q5, q6, q7⟩ := h
  exact ⟨cell, q1, q2, q3, q4, q5, fun j hj => by rw [← hf j hj]; exact q6 j hj, q7⟩
theorem gA.wk (h : gA z w ty H b n f) : gA z false ty H b n f := by
  obtain ⟨cell, q1, q2, q3, q4, q5, q6, q7⟩ := h
  exact ⟨cell, q1, q2, q3, q4, q5, q6, fun e => by cases e⟩
theorem gO.lt (h : gO z w C T N H a fs) : a < H.size := by
  obtain ⟨cell, h1, -⟩ := h
  exact (Array.getElem?_eq_some_iff.mp h1).1
theorem gO.to (h : gO z w C T N H a fs) (h1 : H1[a]? = H[a]?) : gO z w C T N H1 a fs := by
  obtain ⟨cell, q, r⟩ := h
  exact ⟨cell, by rw [h1]; exact q, r⟩
theorem gO.x (h : gO z w C T N H a fs) (h1 : gx H H1) : gO z w C T N H1 a fs := h.to (h1.2 _ h.lt)
theorem gO.ch (h : gO z w C T N H a fs) (h1 : gch b H H1) (hb : a ≠ b) : gO z w C T N H1 a fs := h.to (h1.2 _ hb)
theorem gO.ex (h : gO z w C T N H a fs) (h1 : gex A H H1) (hb : ¬ A a) : gO z w C T N H1 a fs := h.to (h1.2 _ h.lt hb)
theorem gO.wk (h : gO z w C T N H a fs) : gO z false C T N H a fs := by
  obtain ⟨cell, q1, q2, q3, q4, q5, q6⟩ := h
  exact ⟨cell, q1, q2, q3, q4, q5, fun e => by cases e⟩
/-- an object and an array are two cells -/
theorem gA.neO {w2 : Bool} {kC : Class} {n0 : Nat} {args : Array Value} (h : gA z w ty H b n f) (h2 : gO z w2 C T N H a fs) (hi : (Cond.instantiable C n0).before args z = true) : b ≠ a := by
  intro e
  subst e
  obtain ⟨cell, q1, q2, -⟩ := h
  obtain ⟨cell2, r1, -, -, r4, -⟩ := h2
  obtain ⟨cC, kC, hfc, hk, hkind, -⟩ := Cond.instantiable_spec hi
  cases q1.symm.trans r1
  cases hfc.symm.trans r4
  obtain ⟨-, k2, hk2, comp, hkind2⟩ := q2
  cases hk.symm.trans hk2
  rw [hkind] at hkind2
  cases hkind2
end GF
theorem gsz (c : Cell) (i : Nat) (v : Value) : (c.setSlot i v).slots.size = c.slots.size := by simp [Cell.setSlot]
theorem gu_static {args : Array Value} {s : State} {C O f d : String} {cf fi : Nat} {kf : Class} {fd : Field}
    (hl : (Cond.lays C O f d).before args s = true ∨ (Cond.laysFinal C O f d).before args s = true) (hi : s.fieldFound? O f d = some (cf, kf, fi, fd)) : fd.isStatic = false := by
  rcases hl with h | h
  · obtain ⟨c, k, cf', kf', fi', fd', r1, r2, hi', hst, -⟩ := Cond.lays_spec h
    cases hi.symm.trans hi'
    exact hst
  · obtain ⟨c, k, cf', kf', fi', fd', r1, r2, hi', hst, -⟩ := Cond.laysFinal_spec h
    cases hi.symm.trans hi'
    exact hst
theorem gu_apart {args : Array Value} {z : State} {C : String} {T : u_T} {N : Nat} {Ts : List Cond} (hts : ∀ w ∈ Ts, w.before args z = true) (hin : ∀ w ∈ u_ws C T N, w ∈ Ts) (ty : Nat → FieldType) (hty : ∀ k, k < N → parseFieldDescriptor (T k).2.2.1 = some (ty k)) (hnm : ∀ a, a < N → ∀ b, b < N → a ≠ b → (T a).2.1 ≠ (T b).2.1)
    {x y i j : Nat} (hx : x < N) (hy : y < N) (hne : x ≠ y) (hi : SlotIs z (T x).1 (T x).2.1 (T x).2.2.1 i) (hj : SlotIs z (T y).1 (T y).2.1 (T y).2.2.1 j) : i ≠ j := by
  obtain ⟨_, _, _, fa, hia, ea⟩ := hi
  obtain ⟨_, _, _, fb, hib, eb⟩ := hj
  rw [← ea, ← eb]
  refine u_apart (u_lays hts hin hx) (u_lays hts hin hy) hia hib ?_
  rw [(State.fieldFound?_type hia (hty x hx)).1, (State.fieldFound?_type hib (hty y hy)).1]
  exact hnm x hx y hy hne
theorem gSlot_uniq {z : State} {O f d : String} {i j : Nat} (h : SlotIs z O f d i) (h2 : SlotIs z O f d j) : i = j := by
  obtain ⟨_, _, _, fa, hia, ea⟩ := h
  obtain ⟨_, _, _, fb, hib, eb⟩ := h2
  cases hia.symm.trans hib
  exact ea.symm.trans eb
section GR
variable {p : Program} {l : Launch} {e : Env} {R : Room} {s : State} {m : MethodId} {args : Array Value} {below : List Frame} {meth : Method} {c : Code} {H : Heap} {locs : List Loc} {cells slots : Nat} {Q : State → Prop}
variable {cc : ByteArray} {pc : Nat} {ls : Array Slot} {rest : List Value} {z : State} {A : Nat → Prop} {a n : Nat} {H0 : Heap} {wf : Bool}
theorem gw_get (hexec : p.tables.exec = Jvm.exec) (hb : c.code = cc) {own ref C : String} {T : u_T} {N index : Nat} {Ts : List Cond} (hts : ∀ w ∈ Ts, w.before args s = true) (hin : ∀ w ∈ u_ws C T N, w ∈ Ts) (hown : s.vm.findClass own = some m.cls) (hal : z.vm.Alike s.vm) {fs : List Value} (hO : gO z wf C T N H a fs) (k : Nat) (hk : k < N)
    (hlink : (Cond.fieldLink own index ref (T k).2.1 (T k).2.2.1).before args s = true) (hsame : ∀ x, s.fieldFound? (T k).1 (T k).2.1 (T k).2.2.1 = some x → s.fieldFound? ref (T k).2.1 (T k).2.2.1 = some x) {v : Value} (hv : vp_V fs k = v) (hdg : decode cc pc = .ok (.getfield index, 3))
    (kk : W p l e R s m args below meth c H locs cells slots Q (F0 m (pc + 3) ls (v :: rest))) : W p l e R s m args below meth c H locs cells slots Q (F0 m pc ls (.ref a :: rest)) := by
  obtain ⟨cell, h1, h2, h3, h4, h5, h6⟩ := hO
  obtain ⟨i, hs, hi⟩ := h5 k hk
  obtain ⟨cf, kf, fi, f, hf, hsl⟩ := slotIs_moved hal hs
  exact W.getf hexec hb hown hlink (hsame _ hf) (gu_static (u_lays hts hin hk) hf) h1 h2 (v := v) (by rw [hsl, hi, hv]) rfl rfl hdg kk
theorem gw_set {cell : Cell} {T : u_T} {N : Nat} {C : String} {Ts : List Cond} {fs : List Value} {i k : Nat} {v : Value} (hts : ∀ w ∈ Ts, w.before args s = true) (hin : ∀ w ∈ u_ws C T N, w ∈ Ts) (hal : z.vm.Alike s.vm) (ty : Nat → FieldType) (hty : ∀ k, k < N → parseFieldDescriptor (T k).2.2.1 = some (ty k)) (hnm : ∀ a, a < N → ∀ b, b < N → a ≠ b → (T a).2.1 ≠ (T b).2.1)
    (h5 : ∀ k, k < N → ∃ i, SlotIs z (T k).1 (T k).2.1 (T k).2.2.1 i ∧ cell.slots[i]? = some (vp_V fs k)) (hk : k < N) (hl : k < fs.length) (hs : SlotIs z (T k).1 (T k).2.1 (T k).2.2.1 i) :
    ∀ j, j < N → ∃ i', SlotIs z (T j).1 (T j).2.1 (T j).2.2.1 i' ∧ (cell.setSlot i v).slots[i']? = some (vp_V (fs.set k v) j) := by
  intro j hj
  obtain ⟨i', hs', hi'⟩ := h5 j hj
  refine ⟨i', hs', ?_⟩
  by_cases hjk : j = k
  · subst hjk
    have e := gSlot_uniq hs hs'
    subst e
    rw [Cell.slots_setSlot_self _ (k2_hasslot hi')]
    simp [vp_V, hl]
  · rw [slot_ne _ _ (gu_apart (z := s) hts hin ty hty hnm hk hj (Ne.symm hjk) (slotIs_moved hal hs) (slotIs_moved hal hs')), hi']
    simp [vp_V, List.getElem?_set, Ne.symm hjk]
theorem gw_put (hexec : p.tables.exec = Jvm.exec) (hb : c.code = cc) {own ref C : String} {T : u_T} {N n0 index : Nat} {Ts : List Cond} (hts : ∀ w ∈ Ts, w.before args s = true) (hin : ∀ w ∈ u_ws C T N, w ∈ Ts) (ty0 : Nat → FieldType) (hty : ∀ k, k < N → parseFieldDescriptor (T k).2.2.1 = some (ty0 k)) (hnm : ∀ a, a < N → ∀ b, b < N → a ≠ b → (T a).2.1 ≠ (T b).2.1) (hins : (Cond.instantiable C n0).before args s = true)
    (hown : s.vm.findClass own = some m.cls) (hal : z.vm.Alike s.vm) {fs : List Value} (hO : gO z true C T N H a fs) (hS0 : va_S A H0 H locs) (hA : A a) (k : Nat) (hk : k < N) (hlink : (Cond.fieldLink own index ref (T k).2.1 (T k).2.2.1).before args s = true) (hsame : ∀ x, s.fieldFound? (T k).1 (T k).2.1 (T k).2.2.1 = some x → s.fieldFound? ref (T k).2.1 (T k).2.2.1 = some x)
    (hfin : (T k).2.2.2 = false) {ty : FieldType} {v : Value} (hd : parseFieldDescriptor (T k).2.2.1 = some ty) (hn : narrow ty v = v) (hfit : fits ty v = true) (hl : k < fs.length)
    (hdg : decode cc pc = .ok (.putfield index, 3)) (kk : ∀ (H1 : Heap) (locs1 : List Loc), gO z true C T N H1 a (fs.set k v) → gch a H H1 → va_S A H0 H1 locs1 → W p l e R s m args below meth c H1 locs1 cells slots Q (F0 m (pc + 3) ls rest)) : W p l e R s m args below meth c H locs cells slots Q (F0 m pc ls (v :: .ref a :: rest)) := by
  obtain ⟨cell, h1, h2, h3, h4, h5, h6⟩ := hO
  obtain ⟨i, hs, hi⟩ := h5 k hk
  obtain ⟨cf, kf, fi, f, hf, hsl⟩ := slotIs_moved hal hs
  obtain ⟨cC, kC, hfc, hkC, hkind, -⟩ := Cond.instantiable_spec hins
  have hlay := hts _ (hin _ (u_in_lay hk))
  unfold u_lay at hlay
  rw [if_neg (by rw [hfin]; decide)] at hlay
  have hst := gu_static (u_lays hts hin hk) hf
  have hcls : cell.cls = cC := by
    have h : s.vm.findClass C = z.vm.findClass C := hal.findClass C _
    rw [h4] at h
    exact Option.some.inj (h.symm.trans hfc)
  have hsd := u_store hfc hkC hkind hlay hf hd hn hfit
  refine W.putK hexec hb (f := f) ⟨hown, hlink, ⟨_, _, _, hsame _ hf⟩, hst⟩ (by rw [hcls]; exact hsd) h1 (h6 rfl) (by rw [hsl]; exact k2_hasslot hi) rfl rfl hdg fun H' e1 e2 e3 => ?_
  rw [hsl] at e1 ⊢
  exact kk H' _ ⟨_, e1, h2, h3, h4, gw_set hts hin hal ty0 hty hnm h5 hk hl hs, h6⟩ ⟨e2, e3⟩ (hS0.put e2 e3 hA)
theorem gw_putF (hexec : p.tables.exec = Jvm.exec) (hb : c.code = cc) {own ref C : String} {T : u_T} {N n0 index : Nat} {Ts : List Cond} (hts : ∀ w ∈ Ts, w.before args s = true) (hin : ∀ w ∈ u_ws C T N, w ∈ Ts) (ty0 : Nat → FieldType) (hty : ∀ k, k < N → parseFieldDescriptor (T k).2.2.1 = some (ty0 k)) (hnm : ∀ a, a < N → ∀ b, b < N → a ≠ b → (T a).2.1 ≠ (T b).2.1) (hins : (Cond.instantiable C n0).before args s = true)
    (hown : s.vm.findClass own = some m.cls) (hal : z.vm.Alike s.vm) {fs : List Value} (hO : gO z true C T N H a fs) (hS0 : va_S A H0 H locs) (hA : A a) (k : Nat) (hk : k < N) (hlink : (Cond.fieldLink own index ref (T k).2.1 (T k).2.2.1).before args s = true) (hsame : ∀ x, s.fieldFound? (T k).1 (T k).2.1 (T k).2.2.1 = some x → s.fieldFound? ref (T k).2.1 (T k).2.2.1 = some x)
    (hfin : (T k).2.2.2 = true) (hin2 : meth.name = "<init>") (hdecl : (T k).1 = own) {ty : FieldType} {v : Value} (hd : parseFieldDescriptor (T k).2.2.1 = some ty) (hn : narrow ty v = v) (hfit : fits ty v = true) (hl : k < fs.length)
    (hdg : decode cc pc = .ok (.putfield index, 3)) (kk : ∀ (H1 : Heap) (locs1 : List Loc), gO z true C T N H1 a (fs.set k v) → gch a H H1 → va_S A H0 H1 locs1 → W p l e R s m args below meth c H1 locs1 cells slots Q (F0 m (pc + 3) ls rest)) : W p l e R s m args below meth c H locs cells slots Q (F0 m pc ls (v :: .ref a :: rest)) := by
  obtain ⟨cell, h1, h2, h3, h4, h5, h6⟩ := hO
  obtain ⟨i, hs, hi⟩ := h5 k hk
  obtain ⟨cf, kf, fi, f, hf, hsl⟩ := slotIs_moved hal hs
  obtain ⟨cC, kC, hfc, hkC, hkind, -⟩ := Cond.instantiable_spec hins
  have hlay := hts _ (hin _ (u_in_lay hk))
  unfold u_lay at hlay
  rw [if_pos hfin] at hlay
  have hst := gu_static (u_lays hts hin hk) hf
  have hcf : m.cls = cf := by
    obtain ⟨_, _, c', _, _, _, -, -, hf', -, -, -, hown2, -⟩ := Cond.laysFinal_spec hlay
    have e1 : c' = cf := by have := hf.symm.trans hf'; simp at this; exact this.1.symm
    rw [hdecl] at hown2
    rw [← e1]; exact Option.some.inj (hown.symm.trans hown2)
  have hcls : cell.cls = cC := by
    have h : s.vm.findClass C = z.vm.findClass C := hal.findClass C _
    rw [h4] at h
    exact Option.some.inj (h.symm.trans hfc)
  have hsd := u_fits hfc hkC hkind (Or.inr hlay) hf hd hn hfit
  refine W.putFinK hexec hb hown hlink (hsame _ hf) hst hcf hin2 (by rw [hcls]; exact hsd) h1 (h6 rfl) (by rw [hsl]; exact k2_hasslot hi) rfl rfl hdg fun H' e1 e2 e3 => ?_
  rw [hsl] at e1 ⊢
  exact kk H' _ ⟨_, e1, h2, h3, h4, gw_set hts hin hal ty0 hty hnm h5 hk hl hs, h6⟩ ⟨e2, e3⟩ (hS0.put e2 e3 hA)
theorem va_S.gx {H1 : Heap} (h : va_S A H0 H locs) (hx : gx H H1) : va_S A H0 H1 locs := ⟨Nat.le_trans h.1 hx.1, fun q h1 h2 => (hx.2 q (Nat.lt_of_lt_of_le h1 h.1)).trans (h.2.1 q h1 h2), h.2.2⟩
theorem gw_new {c0 : Code} (hexec : p.tables.exec = Jvm.exec) (hb : c0.code = cc) {own C : String} {T : u_T} {N index : Nat} {Ts : List Cond} (hts : ∀ w ∈ Ts, w.before args s = true) (hin : ∀ w ∈ u_ws C T N, w ∈ Ts) (ty : Nat → FieldType) (hty : ∀ k, k < N → parseFieldDescriptor (T k).2.2.1 = some (ty k)) (hown : s.vm.findClass own = some m.cls) (hal : z.vm.Alike s.vm) (hcl : (Cond.classLink own index C).before args s = true) (hinst : (Cond.instantiable C N).before args s = true) (hini : (Cond.initialized C).before args s = true)
    (hS : va_S A H0 H locs) {fs : List Value} (hfs : ∀ j, j < N → defaultValue (ty j) = vp_V fs j) (hcells : cells + 1 ≤ R.cells) (hslots : slots + N ≤ R.slots) (hdg : decode cc pc = .ok (.new index, 3))
    (kk : ∀ (q : Nat) (H1 : Heap), q = H.size → H1.size = q + 1 → gx H H1 → gO z true C T N H1 q fs → va_S A H0 H1 locs →
      W p l e R s m args below meth c0 H1 locs (cells + 1) (slots + N) Q (F0 m (pc + 3) ls (.ref q :: rest))) : W p l e R s m args below meth c0 H locs cells slots Q (F0 m pc ls rest) := by
  obtain ⟨cC, iS, hKn⟩ := u_known (n := N) hts hin hinst
  refine W.newcK hexec hb hown hcl hinst hini rfl hdg hcells hslots hKn.2.1 rfl fun H1 kC hkC e1 z1 o1 => ?_
  have hx : gx H H1 := ⟨by omega, o1⟩
  refine kk H.size H1 rfl z1 hx ?_ (hS.gx hx)
  obtain ⟨cell, q1, q2, q3, q4⟩ := u_born ty hts hin hKn hkC e1 hty
  refine ⟨cell, q1, (by rw [q3]; intro h; cases h), (by rw [q3]; rfl), ?_, fun k hk => ⟨iS k, slotIs_moved hal.symm (hKn.1 k hk), ?_⟩, fun _ => q3⟩
  · rw [q2, hal.symm.findClass]
    exact hKn.2.1
  · rw [← hfs k hk]
    exact q4 k hk
theorem gw_newa (hexec : p.tables.exec = Jvm.exec) (hb : c.code = cc) {atype : ArrayType} {ty : FieldType} (harr : (Cond.arrayClass ty).before args s = true) (hty : newarray.typeOf atype = ty) (hal : z.vm.Alike s.vm) (hS : va_S A H0 H locs)
    {x : Int32} {N' : Nat} (hn : x = nI N') (h31 : N' < 2 ^ 31) (hbytes : N' * componentBytes ty ≤ 536870912) (hcells : cells + 1 ≤ R.cells) (hslots : slots + N' ≤ R.slots) (hdg : decode cc pc = .ok (.newarray atype, 2))
    (kk : ∀ (q : Nat) (H1 : Heap), q = H.size → H1.size = q + 1 → gx H H1 → gA z true ty H1 q N' (fun _ => defaultValue ty) → va_S A H0 H1 locs →
      W p l e R s m args below meth c H1 locs (cells + 1) (slots + N') Q (F0 m (pc + 2) ls (.ref q :: rest))) : W p l e R s m args below meth c H locs cells slots Q (F0 m pc ls (.int x :: rest)) := by
  subst hty
  subst hn
  refine va_newaK hexec hb harr rfl hdg rfl (nI_pos h31) (nI_clamp h31) hbytes hcells hslots rfl fun H1 cA e1 z1 o1 hAr hNm => ?_
  have hx : gx H H1 := ⟨by omega, o1⟩
  refine kk H.size H1 rfl z1 hx ⟨_, e1, State.isArrayOf_alike hal.symm (hAr N' _), (by intro h; cases h), by rw [arrV_size]; exact Nat.le_refl _, by rw [arrV_size]; first | done | rfl, fun j hj => arrV_read _ _ hj, fun _ => ⟨rfl, arrV_size _ _ _, ?_⟩⟩ (hS.gx hx)
  rw [hal.symm.findClass]
  exact hNm
theorem gw_len (hexec : p.tables.exec = Jvm.exec) (hb : c.code = cc) (hal : z.vm.Alike s.vm) {ty : FieldType} {f : Nat → Value} (hO : gA z wf ty H a n f) (hdg : decode cc pc = .ok (.arraylength, 1))
    (kk : W p l e R s m args below meth c H locs cells slots Q (F0 m (pc + 1) ls (.int (nI n) :: rest))) : W p l e R s m args below meth c H locs cells slots Q (F0 m pc ls (.ref a :: rest)) := by
  obtain ⟨cell, h1, h2, h3, h4, h5, h6⟩ := hO
  exact W.alen (n := nI n) hexec hb h1 (State.isArrayOf_alike hal h2) h5 rfl rfl hdg kk
theorem g_in {cell : Cell} {k : Nat} (h4 : n ≤ cell.slots.size) (hk : k < n) (h31 : n < 2 ^ 31) : ¬ (nI k < 0 ∨ cell.slots.size ≤ (nI k).toNatClampNeg) := by
  rw [nI_clamp (by omega)]
  intro h
  rcases h with h | h
  · exact nI_pos (by omega) h
  · omega
theorem gw_iald (hexec : p.tables.exec = Jvm.exec) (hb : c.code = cc) (hal : z.vm.Alike s.vm) {f : Nat → Int32} (hO : gA z wf .int H a n (fun j => .int (f j))) {x : Int32} (k : Nat) (hx : x = nI k) (hk : k < n) (h31 : n < 2 ^ 31) (hdg : decode cc pc = .ok (.iaload, 1))
    (kk : W p l e R s m args below meth c H locs cells slots Q (F0 m (pc + 1) ls (.int (f k) :: rest))) : W p l e R s m args below meth c H locs cells slots Q (F0 m pc ls (.int x :: .ref a :: rest)) := by
  subst hx
  obtain ⟨cell, h1, h2, h3, h4, h5, h6, -⟩ := hO
  exact W.iald (v := .int (f k)) hexec hb h1 (State.isArrayOf_alike hal h2) h3 (g_in h4 hk h31) (by rw [nI_clamp (by omega)]; exact h6 k hk) rfl rfl hdg kk
theorem gw_bald (hexec : p.tables.exec = Jvm.exec) (hb : c.code = cc) (hal : z.vm.Alike s.vm) {f : Nat → Int32} (hO : gA z wf .byte H a n (fun j => .int (f j))) {x : Int32} (k : Nat) (hx : x = nI k) (hk : k < n) (h31 : n < 2 ^ 31) (hdg : decode cc pc = .ok (.baload, 1))
    (kk : W p l e R s m args below meth c H locs cells slots Q (F0 m (pc + 1) ls (.int (f k) :: rest))) : W p l e R s m args below meth c H locs cells slots Q (F0 m pc ls (.int x :: .ref a :: rest)) := by
  subst hx
  obtain ⟨cell, h1, h2, h3, h4, h5, h6, -⟩ := hO
  exact W.bald (v := .int (f k)) hexec hb h1 (State.isArrayOf_alike hal h2) h3 (g_in h4 hk h31) (by rw [nI_clamp (by omega)]; exact h6 k hk) rfl rfl hdg kk
theorem gw_zald (hexec : p.tables.exec = Jvm.exec) (hb : c.code = cc) (hal : z.vm.Alike s.vm) {f : Nat → Int32} (hO : gA z wf .boolean H a n (fun j => .int (f j))) {x : Int32} (k : Nat) (hx : x = nI k) (hk : k < n) (h31 : n < 2 ^ 31) (hdg : decode cc pc = .ok (.baload, 1))
    (kk : W p l e R s m args below meth c H locs cells slots Q (F0 m (pc + 1) ls (.int (f k) :: rest))) : W p l e R s m args below meth c H locs cells slots Q (F0 m pc ls (.int x :: .ref a :: rest)) := by
  subst hx
  obtain ⟨cell, h1, h2, h3, h4, h5, h6, -⟩ := hO
  exact W.zald (v := .int (f k)) hexec hb h1 (State.isArrayOf_alike hal h2) h3 (g_in h4 hk h31) (by rw [nI_clamp (by omega)]; exact h6 k hk) rfl rfl hdg kk
theorem gw_cald (hexec : p.tables.exec = Jvm.exec) (hb : c.code = cc) (hal : z.vm.Alike s.vm) {f : Nat → Int32} (hO : gA z wf .char H a n (fun j => .int (f j))) {x : Int32} (k : Nat) (hx : x = nI k) (hk : k < n) (h31 : n < 2 ^ 31) (hdg : decode cc pc = .ok (.caload, 1))
    (kk : W p l e R s m args below meth c H locs cells slots Q (F0 m (pc + 1) ls (.int (f k) :: rest))) : W p l e R s m args below meth c H locs cells slots Q (F0 m pc ls (.int x :: .ref a :: rest)) := by
  subst hx
  obtain ⟨cell, h1, h2, h3, h4, h5, h6, -⟩ := hO
  exact W.cald (v := .int (f k)) hexec hb h1 (State.isArrayOf_alike hal h2) h3 (g_in h4 hk h31) (by rw [nI_clamp (by omega)]; exact h6 k hk) rfl rfl hdg kk
theorem gw_lald (hexec : p.tables.exec = Jvm.exec) (hb : c.code = cc) (hal : z.vm.Alike s.vm) {f : Nat → Int64} (hO : gA z wf .long H a n (fun j => .long (f j))) {x : Int32} (k : Nat) (hx : x = nI k) (hk : k < n) (h31 : n < 2 ^ 31) (hdg : decode cc pc = .ok (.laload, 1))
    (kk : W p l e R s m args below meth c H locs cells slots Q (F0 m (pc + 1) ls (.long (f k) :: rest))) : W p l e R s m args below meth c H locs cells slots Q (F0 m pc ls (.int x :: .ref a :: rest)) := by
  subst hx
  obtain ⟨cell, h1, h2, h3, h4, h5, h6, -⟩ := hO
  exact W.lald (v := .long (f k)) hexec hb h1 (State.isArrayOf_alike hal h2) h3 (g_in h4 hk h31) (by rw [nI_clamp (by omega)]; exact h6 k hk) rfl rfl hdg kk
theorem gw_dald (hexec : p.tables.exec = Jvm.exec) (hb : c.code = cc) (hal : z.vm.Alike s.vm) {f : Nat → UInt64} (hO : gA z wf .double H a n (fun j => .double (f j))) {x : Int32} (k : Nat) (hx : x = nI k) (hk : k < n) (h31 : n < 2 ^ 31) (hdg : decode cc pc = .ok (.daload, 1))
    (kk : W p l e R s m args below meth c H locs cells slots Q (F0 m (pc + 1) ls (.double (f k) :: rest))) : W p l e R s m args below meth c H locs cells slots Q (F0 m pc ls (.int x :: .ref a :: rest)) := by
  subst hx
  obtain ⟨cell, h1, h2, h3, h4, h5, h6, -⟩ := hO
  exact W.dald (v := .double (f k)) hexec hb h1 (State.isArrayOf_alike hal h2) h3 (g_in h4 hk h31) (by rw [nI_clamp (by omega)]; exact h6 k hk) rfl rfl hdg kk
theorem gw_iast (hexec : p.tables.exec = Jvm.exec) (hb : c.code = cc) (hal : z.vm.Alike s.vm) {f : Nat → Int32} (hO : gA z wf .int H a n (fun j => .int (f j))) (hS : va_S A H0 H locs) (hA : A a) {y : Int32} {x : Int32} (k : Nat) (hx : y = nI k) (hk : k < n) (h31 : n < 2 ^ 31) (hdg : decode cc pc = .ok (.iastore, 1))
    (kk : ∀ (H1 : Heap) (locs1 : List Loc), gA z wf .int H1 a n (fun j => .int ((upd f k x) j)) → gch a H H1 → va_S A H0 H1 locs1 → W p l e R s m args below meth c H1 locs1 cells slots Q (F0 m (pc + 1) ls rest)) : W p l e R s m args below meth c H locs cells slots Q (F0 m pc ls (.int x :: .int y :: .ref a :: rest)) := by
  subst hx
  obtain ⟨cell, h1, h2, h3, h4, h5, h6, h7⟩ := hO
  refine W.iast hexec hb h1 (State.isArrayOf_alike hal h2) h3 (g_in h4 hk h31) rfl rfl hdg fun H1 e z oq => ?_
  refine kk H1 _ ⟨_, e, h2, h3, by rw [gsz]; exact h4, by rw [gsz]; exact h5, fun j hj => ?_, fun w => by rw [gsz]; exact h7 w⟩ ⟨z, oq⟩ (hS.put z oq hA)
  rw [nI_clamp (by omega)]
  by_cases hjk : j = k
  · subst hjk
    rw [Cell.slots_setSlot_self _ (by omega)]
    simp [upd, narrow]
  · rw [slot_ne _ _ (Ne.symm hjk), h6 j hj]
    simp [upd, hjk]
theorem gw_bast (hexec : p.tables.exec = Jvm.exec) (hb : c.code = cc) (hal : z.vm.Alike s.vm) {f : Nat → Int32} (hO : gA z wf .byte H a n (fun j => .int (f j))) (hS : va_S A H0 H locs) (hA : A a) {y : Int32} {x : Int32} (k : Nat) (hx : y = nI k) (hk : k < n) (h31 : n < 2 ^ 31) (hdg : decode cc pc = .ok (.bastore, 1))
    (kk : ∀ (H1 : Heap) (locs1 : List Loc), gA z wf .byte H1 a n (fun j => .int ((upd f k (x.toInt8.toInt32)) j)) → gch a H H1 → va_S A H0 H1 locs1 → W p l e R s m args below meth c H1 locs1 cells slots Q (F0 m (pc + 1) ls rest)) : W p l e R s m args below meth c H locs cells slots Q (F0 m pc ls (.int x :: .int y :: .ref a :: rest)) := by
  subst hx
  obtain ⟨cell, h1, h2, h3, h4, h5, h6, h7⟩ := hO
  refine W.bast hexec hb h1 (State.isArrayOf_alike hal h2) h3 (g_in h4 hk h31) rfl rfl hdg fun H1 e z oq => ?_
  refine kk H1 _ ⟨_, e, h2, h3, by rw [gsz]; exact h4, by rw [gsz]; exact h5, fun j hj => ?_, fun w => by rw [gsz]; exact h7 w⟩ ⟨z, oq⟩ (hS.put z oq hA)
  rw [nI_clamp (by omega)]
  by_cases hjk : j = k
  · subst hjk
    rw [Cell.slots_setSlot_self _ (by omega)]
    simp [upd, narrow]
  · rw [slot_ne _ _ (Ne.symm hjk), h6 j hj]
    simp [upd, hjk]
theorem gw_zast (hexec : p.tables.exec = Jvm.exec) (hb : c.code = cc) (hal : z.vm.Alike s.vm) {f : Nat → Int32} (hO : gA z wf .boolean H a n (fun j => .int (f j))) (hS : va_S A H0 H locs) (hA : A a) {y : Int32} {x : Int32} (k : Nat) (hx : y = nI k) (hk : k < n) (h31 : n < 2 ^ 31) (hdg : decode cc pc = .ok (.bastore, 1))
    (kk : ∀ (H1 : Heap) (locs1 : List Loc), gA z wf .boolean H1 a n (fun j => .int ((upd f k (x &&& 1)) j)) → gch a H H1 → va_S A H0 H1 locs1 → W p l e R s m args below meth c H1 locs1 cells slots Q (F0 m (pc + 1) ls rest)) : W p l e R s m args below meth c H locs cells slots Q (F0 m pc ls (.int x :: .int y :: .ref a :: rest)) := by
  subst hx
  obtain ⟨cell, h1, h2, h3, h4, h5, h6, h7⟩ := hO
  refine W.zast hexec hb h1 (State.isArrayOf_alike hal h2) h3 (g_in h4 hk h31) rfl rfl hdg fun H1 e z oq => ?_
  refine kk H1 _ ⟨_, e, h2, h3, by rw [gsz]; exact h4, by rw [gsz]; exact h5, fun j hj => ?_, fun w => by rw [gsz]; exact h7 w⟩ ⟨z, oq⟩ (hS.put z oq hA)
  rw [nI_clamp (by omega)]
  by_cases hjk : j = k
  · subst hjk
    rw [Cell.slots_setSlot_self _ (by omega)]
    simp [upd, narrow]
  · rw [slot_ne _ _ (Ne.symm hjk), h6 j hj]
    simp [upd, hjk]
theorem gw_last (hexec : p.tables.exec = Jvm.exec) (hb : c.code = cc) (hal : z.vm.Alike s.vm) {f : Nat → Int64} (hO : gA z wf .long H a n (fun j => .long (f j))) (hS : va_S A H0 H locs) (hA : A a) {y : Int32} {x : Int64} (k : Nat) (hx : y = nI k) (hk : k < n) (h31 : n < 2 ^ 31) (hdg : decode cc pc = .ok (.lastore, 1))
    (kk : ∀ (H1 : Heap) (locs1 : List Loc), gA z wf .long H1 a n (fun j => .long ((vp_updL f k x) j)) → gch a H H1 → va_S A H0 H1 locs1 → W p l e R s m args below meth c H1 locs1 cells slots Q (F0 m (pc + 1) ls rest)) : W p l e R s m args below meth c H locs cells slots Q (F0 m pc ls (.long x :: .int y :: .ref a :: rest)) := by
  subst hx
  obtain ⟨cell, h1, h2, h3, h4, h5, h6, h7⟩ := hO
  refine W.last hexec hb h1 (State.isArrayOf_alike hal h2) h3 (g_in h4 hk h31) rfl rfl hdg fun H1 e z oq => ?_
  refine kk H1 _ ⟨_, e, h2, h3, by rw [gsz]; exact h4, by rw [gsz]; exact h5, fun j hj => ?_, fun w => by rw [gsz]; exact h7 w⟩ ⟨z, oq⟩ (hS.put z oq hA)
  rw [nI_clamp (by omega)]
  by_cases hjk : j = k
  · subst hjk
    rw [Cell.slots_setSlot_self _ (by omega)]
    simp [vp_updL, narrow]
  · rw [slot_ne _ _ (Ne.symm hjk), h6 j hj]
    simp [vp_updL, hjk]
theorem gw_dast (hexec : p.tables.exec = Jvm.exec) (hb : c.code = cc) (hal : z.vm.Alike s.vm) {f : Nat → UInt64} (hO : gA z wf .double H a n (fun j => .double (f j))) (hS : va_S A H0 H locs) (hA : A a) {y : Int32} {x : UInt64} (k : Nat) (hx : y = nI k) (hk : k < n) (h31 : n < 2 ^ 31) (hdg : decode cc pc = .ok (.dastore, 1))
    (kk : ∀ (H1 : Heap) (locs1 : List Loc), gA z wf .double H1 a n (fun j => .double ((vf_upd f k x) j)) → gch a H H1 → va_S A H0 H1 locs1 → W p l e R s m args below meth c H1 locs1 cells slots Q (F0 m (pc + 1) ls rest)) : W p l e R s m args below meth c H locs cells slots Q (F0 m pc ls (.double x :: .int y :: .ref a :: rest)) := by
  subst hx
  obtain ⟨cell, h1, h2, h3, h4, h5, h6, h7⟩ := hO
  refine W.dast hexec hb h1 (State.isArrayOf_alike hal h2) h3 (g_in h4 hk h31) rfl rfl hdg fun H1 e z oq => ?_
  refine kk H1 _ ⟨_, e, h2, h3, by rw [gsz]; exact h4, by rw [gsz]; exact h5, fun j hj => ?_, fun w => by rw [gsz]; exact h7 w⟩ ⟨z, oq⟩ (hS.put z oq hA)
  rw [nI_clamp (by omega)]
  by_cases hjk : j = k
  · subst hjk
    rw [Cell.slots_setSlot_self _ (by omega)]
    simp [vf_upd, narrow]
  · rw [slot_ne _ _ (Ne.symm hjk), h6 j hj]
    simp [vf_upd, hjk]
end GR
