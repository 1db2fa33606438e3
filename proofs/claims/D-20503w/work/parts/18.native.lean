/-! ## methods that an entry of the natives runs -/
set_option maxRecDepth 100000
/-- the state behind a method's end, out of the state ahead of it: its frames alone are new -/
theorem ov_out {s : State} {m : MethodId} {args : Array Value} {below fs : List Frame} {meth : Method} {r : UInt64} (hf : s.frames = .invoking m args :: below) (hmeth : s.vm.method? m = some meth) (hret : meth.sig.returnType = some .double) (hh : s.hears m below = true)
    (hfs : handOver s (some (.double r)) below = some fs) : Ended (s.setFrames fs) below (.returned (some (.double r))) ∧ FrameEnd s (.returned (some (.double r))) (s.setFrames fs) [] 0 0 := by
  have hcur := State.cur_lt_of_frames hf
  constructor
  · refine ended_of_handOver hfs hcur (Or.inr ?_)
    rcases below with _ | ⟨b, bs⟩
    · simp [State.hears, hmeth, hret] at hh
    · cases b <;> first | exact ⟨_, _, rfl, trivial⟩ | (simp [State.hears, hmeth, hret] at hh)
  · exact ⟨⟨_, rfl⟩, State.WarmedH.refl s, (State.sameButNew.refl s (x := s.threads[s.cur]) (by simp [hcur])).setFrames fs hcur⟩
/-- the step into a method's own frame -/
theorem ov_in {p : Program} {e : Env} {s : State} {m : MethodId} {args : Array Value} {below : List Frame} {meth : Method} {c : Code} {n : Nat} {rm : Room} (hf : s.frames = .invoking m args :: below) (hmeth : s.vm.method? m = some meth) (hcode : meth.code = some c) (hl : meth.locks = false) (hn : c.maxLocals = n)
    (hroom : s.hasRoom e.platform rm = true) : (stepThread p.tables e s).1 = s.setFrames (.java (entryFrame m args n) :: below) := by
  have hcur := State.cur_lt_of_frames hf
  have q : e.platform.stackFull (s.setFrames below).me (s.setFrames below).frames c.maxLocals = false := by
    obtain ⟨-, r1, -, r2⟩ := State.hasRoom_stack hroom
    rw [State.localsInUse_invoking hf hmeth hcode] at r2
    rw [hf, List.length_cons] at r1
    have w := stackUse_le_stackWeight below
    rw [State.frames_setFrames _ hcur]
    apply Platform.stackFull_eq_false <;> rw [State.stackLimits_setFrames] <;> omega
  rw [stepThread_invoking hf, (doInvoke_java (s := s.setFrames below) (e := e) (meth := meth) (code := c) hmeth hcode hl q).1]
  simp only [State.pushFrame, State.frames_setFrames _ hcur, State.setFrames_setFrames, hn, entryFrame]
/-- the row that runs a frame just made -/
theorem ov_row {p : Program} {e : Env} {s U : State} {m : MethodId} {args : Array Value} {meth : Method} {y : MethodName} {row : NativeRow} {n : Nat} (hin : overriddenIn.contains y.cls = true) (hrow : NativeRow.find? p.tables.natives y.cls y.name y.desc = some row) (hname : s.methodNamed? y = some m) (hmeth : s.vm.method? m = some meth) (hU : U.vm = s.vm) :
    overridden p.tables e U (entryFrame m args n) = some row := by
  obtain ⟨k, hk, hkn⟩ := className_of_methodNamed hname
  obtain ⟨hmn, hmd⟩ := name_of_methodNamed hname hmeth
  have hx : k.methods[m.idx]? = some meth := by simpa [Vm.method?, hk] using hmeth
  have hboot : k.loader = none := Vm.bootOf_findClass (findClass_of_methodNamed hname) hk
  have h1 : U.vm.classes[(entryFrame m args n).method.cls]? = some k := by rw [hU]; exact hk
  have h2 : k.methods[(entryFrame m args n).method.idx]? = some meth := hx
  have h3 : y.cls ∈ overriddenIn := by simpa using hin
  unfold overridden
  simp only [h1, h2, hkn, hmn, hmd, hboot]
  simp [h3, hrow, entryFrame]
theorem ov_D {l : Launch} {y : MethodName} {cc : ByteArray} {rm : Room} {z : State} {H0 : Heap} {x r : UInt64} {row : NativeRow} {post : UInt64 → Prop} (hin : overriddenIn.contains y.cls = true) (hd : y.desc = "(D)D")
    (hrow : ∀ p : Program, NativeRow.find? p.tables.natives y.cls y.name y.desc = some row) (hsem : ∀ (e : Env) (S : State), ∃ acts, (row.sem #[.double x]).run e S = .ok (some (.double r)) S acts) (hp : post r) :
    Met l y (ws_ y cc 2 (some .double)) rm (gPc z H0 [.double x]) (gPd H0 post) 0 0 gno := by
  intro p e ha hc hk s m args below hf happ hP _
  obtain ⟨rfl, hh, hal⟩ := hP
  obtain ⟨hrun, hable, halone, hname, hhears, hinit, hroom, hpre⟩ := (Spec.appliesLoose_iff hf).mp happ
  obtain ⟨meth, c, hmeth, hcode, -, hlocals, hret, hlocks, -, hsig⟩ := Cond.code_spec hname (atoms_spec (ws := ws_ y cc 2 (some .double)) hpre _ List.mem_cons_self)
  have hcur := State.cur_lt_of_frames hf
  obtain ⟨fs, hfs⟩ := handOver_isSome (s := s) (some (.double r)) hhears
  obtain ⟨hE, hF⟩ := ov_out hf hmeth hret hhears hfs
  have st1 := ov_in (p := p) hf hmeth hcode hlocks hlocals hroom
  have hf1 : (s.setFrames (.java (entryFrame m #[Value.double x] 2) :: below)).frames = .java (entryFrame m #[Value.double x] 2) :: below := State.frames_setFrames _ hcur
  have hov := ov_row (e := e) (U := s.setFrames (.java (entryFrame m #[Value.double x] 2) :: below)) (args := #[Value.double x]) (n := 2) hin (hrow p) hname hmeth rfl
  have hac : argCount (s.setFrames (.java (entryFrame m #[Value.double x] 2) :: below)) m = 1 + if meth.isStatic then 0 else 1 := by
    have h2 : parseMethodDescriptor "(D)D" = some { parameters := [.double], returnType := some .double } := by decide +kernel
    rw [hd, h2] at hsig
    unfold argCount
    have h3 : ((s.setFrames (.java (entryFrame m #[Value.double x] 2) :: below)).vm.classes[m.cls]?).bind (·.methods[m.idx]?) = some meth := hmeth
    rw [h3]
    show meth.sig.parameters.length + _ = _
    rw [← Option.some.inj hsig]
    rfl
  have htake : ∀ n : Nat, List.take (1 + n) [Value.double x] = [Value.double x] := fun n => List.take_of_length_le (Nat.le_add_right 1 n)
  obtain ⟨acts, hsem⟩ := hsem e (s.setFrames (.native { method := m, args := #[.double x] } :: below))
  have st2 : (stepThread p.tables e (s.setFrames (.java (entryFrame m #[Value.double x] 2) :: below))).1 = s.setFrames fs := by
    unfold stepThread
    simp only [hf1, hov]
    simp [entryFrame, argsToLocals, Value.category] at hac ⊢
    simp [hac, htake, hsem, afterNative]
    rw [doReturn_native (f := { method := m, args := #[.double x] }) (below := below) (fs := fs) (State.frames_setFrames _ hcur) rfl hfs, State.setFrames_setFrames]
  have go : Steps p.tables e below s (s.setFrames fs) := by
    refine Steps.head ⟨hrun, hable, halone⟩ ⟨[.invoking m #[Value.double x]], hf, by simp, by simp⟩ (st1 ▸ Steps.head ⟨hrun, by simpa using hable, by simpa using halone⟩ ⟨[.java (entryFrame m #[Value.double x] 2)], by rw [hf1]; rfl, by simp, by simp⟩ (st2 ▸ Steps.refl _))
  obtain ⟨n, hn, hw⟩ := go
  exact ⟨n, .returned (some (.double r)), hw, by rw [hn]; exact hrun, by rw [hn]; exact hE, by rw [hn]; exact ⟨⟨⟨r, rfl, hp⟩, hh⟩, [], hF, fun _ h => by cases h⟩⟩
def rowAbs : NativeRow := (NativeRow.find? Native.java_lang_Math.nans.rows "java/lang/Math" "abs" "(D)D").get (by decide +kernel)
theorem rowAbs_at (p : Program) : NativeRow.find? p.tables.natives yJ12_abs.cls yJ12_abs.name yJ12_abs.desc = some rowAbs := by cases p <;> rfl
theorem dA_and (x : UInt64) : x &&& 0x7fffffffffffffff = dA x := by
  apply UInt64.toNat_inj.mp
  have h : (dA x).toNat = dP x := by
    unfold dA
    rw [UInt64.toNat_ofNat']
    exact Nat.mod_eq_of_lt (Nat.lt_trans (dP_lt x) (by decide))
  rw [h, UInt64.toNat_and]
  exact Nat.and_two_pow_sub_one_eq_mod _ 63
theorem rowAbs_runs {x : UInt64} (hx : dNum x) (e : Env) (S : State) : ∃ acts, (rowAbs.sem #[.double x]).run e S = .ok (some (.double (dA x))) S acts := by
  have q : (x &&& 0x7fffffffffffffff) &&& 0x7fffffffffffffff ≤ 0x7ff0000000000000 := by
    rw [UInt64.and_assoc, UInt64.and_self, UInt64.le_iff_toNat_le, UInt64.toNat_and]
    show _ &&& 2 ^ 63 - 1 ≤ _
    rw [Nat.and_two_pow_sub_one_eq_mod]
    exact hx
  have w : wpRun (rowAbs.sem #[.double x]) (fun v s₂ _ => v = some (.double (dA x)) ∧ s₂ = S) (fun _ _ _ => False) e S := by
    rw [← dA_and]
    show wpRun (do let r ← anyNaN64 (x &&& 0x7fffffffffffffff); mark "nat.java_lang_Math.abs"; Pure.pure (some (Value.double r))) _ _ e S
    simp [jvm, wpRun, anyNaN64, q]
  have w := (wpRun_iff_run _ _ _ _ _).mp w
  cases hr : (rowAbs.sem #[.double x]).run e S with
  | ok v s₂ acts => rw [hr] at w; obtain ⟨rfl, rfl⟩ := w; exact ⟨acts, rfl⟩
  | ctl v s₂ acts => rw [hr] at w; cases v <;> exact w.elim
/-- Math.abs(double) -/
theorem m_abs (l : Launch) (z : State) (H0 : Heap) (x : UInt64)  (hx0 : dNum x) : Met l yJ12_abs (ws_ yJ12_abs cJ12_abs 2 (some .double)) { frames := 1, cells := 0, slots := 0, locals := 40 } (gPc z H0 [.double x]) (gPd H0 (fun r => r = dA x)) 0 0 gno :=
  ov_D (by decide +kernel) rfl rowAbs_at (rowAbs_runs hx0) rfl
