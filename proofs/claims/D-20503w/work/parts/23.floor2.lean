/-! ## Math.floor(double): an entry of the natives that calls StrictMath.floor -/
set_option maxRecDepth 100000
def rowFlo : NativeRow := (NativeRow.find? Native.java_lang_Math.nans.rows "java/lang/Math" "floor" "(D)D").get (by decide +kernel)
theorem rowFlo_at (p : Program) : NativeRow.find? p.tables.natives yJ12_floor.cls yJ12_floor.name yJ12_floor.desc = some rowFlo := by cases p <;> rfl
theorem rowFlo_asks (x : UInt64) (e : Env) (S : State) {cS : ClassId} {kS : Class} {i : Nat} (h1 : S.vm.findClass "java/lang/StrictMath" = some cS) (h2 : S.vm.classes[cS]? = some kS) (h3 : kS.init = .initialized) (h4 : kS.findMethod "floor" "(D)D" = some i) :
    ∃ acts, (rowFlo.sem #[.double x]).run e S = .ctl (.call ⟨cS, i⟩ #[.double x] 1 #[]) S acts := by
  have w : wpRun (rowFlo.sem #[.double x]) (fun _ _ _ => False) (fun q s₂ _ => q = .call ⟨cS, i⟩ #[.double x] 1 #[] ∧ s₂ = S) e S := by
    show wpRun (do
      let q ← classNamed "java/lang/StrictMath"
      ensureInit q
      let some j := (← theClass q).findMethod "floor" "(D)D" | modelBug ("StrictMath lacks " ++ "floor")
      callThen ⟨q, j⟩ #[Value.double x] 1 #[]) _ _ e S
    simp [jvm, wpRun, W.classNamed_ready h1, W.ensureInit_ready ⟨kS, h2, h3⟩, theClass, callThen, h2, h4]
    exact ⟨rfl, rfl, rfl, rfl⟩
  have w := (wpRun_iff_run _ _ _ _ _).mp w
  cases hr : (rowFlo.sem #[.double x]).run e S with
  | ok v s₂ acts => rw [hr] at w; exact w.elim
  | ctl v s₂ acts =>
    rw [hr] at w
    have w2 : v = .call ⟨cS, i⟩ #[.double x] 1 #[] ∧ s₂ = S := by cases v <;> first | exact w | exact w.elim
    exact ⟨acts, by rw [w2.1, w2.2]⟩
theorem rowFlo_ends {r : UInt64} (hn : dNum r) (e : Env) (S : State) : ∃ acts, (rowFlo.resume 1 #[] (.returned (some (.double r)))).run e S = .ok (some (.double r)) S acts := by
  have q : r &&& 0x7fffffffffffffff ≤ 0x7ff0000000000000 := by
    rw [UInt64.le_iff_toNat_le, UInt64.toNat_and]
    show _ &&& 2 ^ 63 - 1 ≤ _
    rw [Nat.and_two_pow_sub_one_eq_mod]
    exact hn
  have w : wpRun (rowFlo.resume 1 #[] (.returned (some (.double r)))) (fun v s₂ _ => v = some (.double r) ∧ s₂ = S) (fun _ _ _ => False) e S := by
    show wpRun (do let a ← anyNaN64 r; mark "nat.java_lang_Math.floor"; Pure.pure (some (Value.double a))) _ _ e S
    simp [jvm, wpRun, anyNaN64, q]
  have w := (wpRun_iff_run _ _ _ _ _).mp w
  cases hr : (rowFlo.resume 1 #[] (.returned (some (.double r)))).run e S with
  | ok v s₂ acts => rw [hr] at w; obtain ⟨rfl, rfl⟩ := w; exact ⟨acts, rfl⟩
  | ctl v s₂ acts => rw [hr] at w; cases v <;> exact w.elim
theorem m_floor (l : Launch) (z : State) (H0 : Heap) (x : UInt64) (hx0 : flo x) (hn : dNum (flr x)) (hg : gZ z "java/lang/StrictMath" "$assertionsDisabled" "Z" (.int 1) gno H0) :
    Met l yJ12_floor (ws_ yJ12_floor cJ12_floor 2 (some .double)) { frames := 8, cells := 0, slots := 0, locals := 2400 } (gPc z H0 [.double x]) (gPd H0 (fun r => r = flr x)) 0 0 gno := by
  intro p e ha hc hk s m args below hf happ hP _
  obtain ⟨rfl, hh, hal⟩ := hP
  obtain ⟨hrun, hable, halone, hname, hhears, hinit, hroom, hpre⟩ := (Spec.appliesLoose_iff hf).mp happ
  have hts := atoms_spec (ws := ws_ yJ12_floor cJ12_floor 2 (some .double)) hpre
  obtain ⟨meth, c, hmeth, hcode, -, hlocals, hret, hlocks, -, hsig⟩ := Cond.code_spec hname (hts _ List.mem_cons_self)
  have hts : ∀ w ∈ lw_all, w.before #[Value.double x] s = true := fun w h => hts w (List.mem_cons_of_mem _ h)
  have hcur := State.cur_lt_of_frames hf
  have st1 := ov_in (p := p) hf hmeth hcode hlocks hlocals hroom
  have hf1 : (s.setFrames (.java (entryFrame m #[Value.double x] 2) :: below)).frames = .java (entryFrame m #[Value.double x] 2) :: below := State.frames_setFrames _ hcur
  have hov := ov_row (e := e) (U := s.setFrames (.java (entryFrame m #[Value.double x] 2) :: below)) (args := #[Value.double x]) (n := 2) (by decide +kernel) (rowFlo_at p) hname hmeth rfl
  have hac : argCount (s.setFrames (.java (entryFrame m #[Value.double x] 2) :: below)) m = 1 + if meth.isStatic then 0 else 1 := by
    have h2 : parseMethodDescriptor yJ12_floor.desc = some { parameters := [.double], returnType := some .double } := by decide +kernel
    rw [h2] at hsig
    unfold argCount
    have h3 : ((s.setFrames (.java (entryFrame m #[Value.double x] 2) :: below)).vm.classes[m.cls]?).bind (·.methods[m.idx]?) = some meth := hmeth
    rw [h3]
    show meth.sig.parameters.length + _ = _
    rw [← Option.some.inj hsig]
    rfl
  have htake : ∀ n : Nat, List.take (1 + n) [Value.double x] = [Value.double x] := fun n => List.take_of_length_le (Nat.le_add_right 1 n)
  have hcw := hts _ q879
  obtain ⟨mS, hnS⟩ := Cond.code_named hcw
  obtain ⟨methS, cS, hmS, hcS, -, hlS, -, -, -, -⟩ := Cond.code_spec hnS hcw
  obtain ⟨kS, hkS, hknS⟩ := className_of_methodNamed hnS
  have hfS := findClass_of_methodNamed hnS
  have hiS : kS.init = .initialized := Cond.initialized_spec hfS hkS (hts _ q84)
  have hmi : kS.findMethod "floor" "(D)D" = some mS.idx := by
    have h := hnS
    unfold State.methodNamed? at h
    simp only [hfS, hkS, Option.bind_eq_bind, Option.bind_some] at h
    cases hq : kS.findMethod "floor" "(D)D" with
    | none => rw [hq] at h; cases h
    | some j => rw [hq] at h; rw [← Option.some.inj h]
  obtain ⟨kP, hkP, hkn⟩ := className_of_methodNamed hname
  obtain ⟨hmn, hmd⟩ := name_of_methodNamed hname hmeth
  have hx : kP.methods[m.idx]? = some meth := by simpa [Vm.method?, hkP] using hmeth
  -- the native's frame, as it waits
  obtain ⟨F, hF⟩ : ∃ F : NFrame, F = { method := m, args := #[Value.double x], stage := 1, saved := #[], awaiting := true, answer := none, words := 0 } := ⟨_, rfl⟩
  obtain ⟨T, hT⟩ : ∃ T : State, T = s.setFrames (.native F :: below) := ⟨_, rfl⟩
  obtain ⟨acts, hask⟩ := rowFlo_asks x e (s.setFrames (.native { method := m, args := #[Value.double x] } :: below)) hfS hkS hiS hmi
  have hwd : ((s.vm.classes[m.cls]?).bind fun k => Option.map (fun n => upcallWords k.name n.name) k.methods[m.idx]?).getD 0 = 0 := by
    simp [hkP, hx, hkn, hmn, upcallWords, yJ12_floor, RJ12]
  have st2 : (stepThread p.tables e (s.setFrames (.java (entryFrame m #[Value.double x] 2) :: below))).1 = (doInvoke e T acts mS #[Value.double x]).1 := by
    rw [hT, hF]
    unfold stepThread
    simp only [hf1, hov]
    simp [entryFrame, argsToLocals, Value.category] at hac ⊢
    simp [hac, htake, hask, afterNative]
    rw [hwd]
  have hTf : T.frames = .native F :: below := by rw [hT]; exact State.frames_setFrames _ hcur
  have hTv : T.vm = s.vm := by rw [hT]; rfl
  have hTh : T.heap = s.heap := by rw [hT]; rfl
  obtain ⟨t0, ht0⟩ : ∃ t0, s.threads[s.cur]? = some t0 := ⟨s.threads[s.cur], by simp [hcur]⟩
  have hTc : T.cur < T.threads.size := State.cur_lt_of_frames hTf
  obtain ⟨N, hN⟩ : ∃ N : State, N = T.pushFrame (.invoking mS #[Value.double x]) := ⟨_, rfl⟩
  have hN2 : N = s.setFrames (.invoking mS #[Value.double x] :: .native F :: below) := by
    rw [hN, State.pushFrame, hTf, hT, State.setFrames_setFrames]
  have hNf : N.frames = .invoking mS #[Value.double x] :: .native F :: below := by rw [hN2]; exact State.frames_setFrames _ hcur
  have hNv : N.vm = s.vm := by rw [hN2]; rfl
  have hNh : N.heap = s.heap := by rw [hN2]; rfl
  have hroomN : N.hasRoom e.platform { frames := 3, cells := 0, slots := 0, locals := 78 } = true := by
    have hr := hroom
    simp only [State.hasRoom, Bool.and_eq_true, decide_eq_true_eq] at hr ⊢
    have e1 : s.localsInUse = stackWeight below + vmFrameWords + (2 + 11) := by rw [State.localsInUse_invoking hf hmeth hcode, hlocals]
    have e2 : N.localsInUse = stackWeight below + vmFrameWords + vmFrameWords + (2 + 11) := by
      rw [State.localsInUse_invoking hNf (by rw [hNv]; exact hmS) hcS, hlS, stackWeight_other (.native F) below (fun f h => by cases h) (by rw [hF]; rfl)]
    have e3 : e.platform.stackLimits N.me = e.platform.stackLimits s.me := by rw [hN2, State.stackLimits_setFrames]
    have e4 : N.me.stackBytes = s.me.stackBytes := by rw [hN2, State.stackBytes_setFrames]
    have e5 : N.slotsTrue = s.slotsTrue := by rw [hN2]; rfl
    have e6 : N.slotsUsed = s.slotsUsed := by rw [hN2]; rfl
    have e7 : N.frames.length = s.frames.length + 1 := by rw [hNf, hf]; rfl
    have e8 : vmFrameWords = 1024 := rfl
    rw [e3, e4, e5, e6, e7, e2, hNh]
    rw [e1] at hr
    obtain ⟨⟨⟨⟨r1, r2⟩, r3⟩, r4⟩, r5⟩ := hr
    have b1 : (headSpec (ws_ yJ12_floor cJ12_floor 2 (some .double)) { frames := 8, cells := 0, slots := 0, locals := 2400 }).room = { frames := 8, cells := 0, slots := 0, locals := 2400 } := rfl
    rw [b1] at r1 r2 r3 r4
    simp only at r1 r2 r3 r4 ⊢
    refine ⟨⟨⟨⟨?_, ?_, ?_, ?_, ?_, r2.2.2.2.2⟩, r3⟩, r4⟩, r5⟩ <;> omega
  have happN : (headSpec (ws_ yJ23_floor cJ23_floor 2 (some .double)) { frames := 3, cells := 0, slots := 0, locals := 78 }).appliesLoose yJ23_floor e.platform N = true := by
    refine (Spec.appliesLoose_iff hNf).mpr ⟨?_, ?_, ?_, ?_, rfl, ?_, hroomN, ?_⟩
    · rw [hN2]; exact hrun
    · rw [hN2]; simpa using hable
    · rw [hN2]; simpa using halone
    · have h : N.methodNamed? yJ23_floor = s.methodNamed? yJ23_floor := by unfold State.methodNamed?; rw [hNv]
      rw [h]; exact hnS
    · exact State.classRipe_of (by rw [hNv]; exact hkS) hiS
    · exact atoms_intro fun w hw => pay_in hts (lw_meth q879) w hw _ _ (by rw [hNv]; exact State.WarmedH.refl s)
  have hPN : gPc z H0 [.double x] #[Value.double x] N := ⟨rfl, hNh.trans hh, by rw [hNv]; exact hal⟩
  obtain ⟨o, S2, hsteps, hrun2, hend, hq, L, hfe, hL⟩ := Steps.callFree (m_floorS l z H0 x hx0 hg) p ha hc hk (s := T) (m := mS) (args := #[Value.double x]) (acts := acts) (mid := [.native F]) (below := below) (by rw [hTf]; rfl) (by rw [← hN]; exact happN) (by rw [← hN]; exact hPN) trivial
  rw [← hN] at hq hfe
  obtain ⟨⟨r, rfl, rfl⟩, hh2⟩ := hq
  have hL0 : L = [] := by
    cases L with
    | nil => rfl
    | cons q t => exact (hL q List.mem_cons_self).elim
  subst hL0
  rw [hTf] at hend
  have hSf : S2.frames = .native { F with awaiting := false, answer := some (.returned (some (.double (flr x)))) } :: below := hend
  obtain ⟨-, hW, hsame⟩ := id hfe
  have hWs : s.WarmedH S2.vm := State.WarmedH.trans (t := N) (by rw [hNv]; exact State.WarmedH.refl s) hW
  have hsame1 : s.sameButNew N [] 0 0 := by rw [hN2]; exact (State.sameButNew.refl s ht0).setFrames _ hcur
  rw [hNv] at hsame
  have hsame2 := hsame1.trans hsame
  have hSc : S2.cur < S2.threads.size := State.cur_lt_of_frames hSf
  obtain ⟨fs, hfs⟩ := handOver_isSome (s := s) (some (.double (flr x))) hhears
  have hfs2 : handOver S2 (some (.double (flr x))) below = some fs := by
    rw [handOver_of_vm (s := s.setVm S2.vm) (u := S2) rfl, handOver_setVm hWs.alike]
    exact hfs
  obtain ⟨k2, hk2, ek⟩ := hWs.alike.2.2 _ _ hkP
  obtain ⟨acts3, hres⟩ := rowFlo_ends hn e S2
  have hk3 : k2.methods[m.idx]? = some meth := by rw [ek]; exact hx
  have hk4 : k2.loader = none := by
    have h := Vm.bootOf_findClass (findClass_of_methodNamed hname) hkP
    rw [ek]
    exact h
  have hk5 : k2.name = "java/lang/Math" := by rw [ek]; exact hkn
  have hk6 : meth.name = "floor" := hmn
  have hk7 : meth.desc = "(D)D" := hmd
  have hrw : NativeRow.find? p.tables.natives "java/lang/Math" "floor" "(D)D" = some rowFlo := rowFlo_at p
  have st3 : (stepThread p.tables e S2).1 = S2.setFrames fs := by
    unfold stepThread
    simp only [hSf]
    simp only [hF, hk2, hk3, hk4, hk5, hk6, hk7, Option.bind_eq_bind, Option.bind_some, Option.pure_def, Option.isNone_none, if_true, hrw]
    rw [hres]
    unfold afterNative
    simp only
    exact doReturn_native hSf (by rw [hF]) hfs2
  have hSr : S2.curStatus? = some .runnable := by
    have h1 : S2.curStatus? = ({ S2 with vm := s.vm } : State).curStatus? := rfl
    rw [h1, hsame.1, hN2]
    show ((s.setFrames _).setFrames _).curStatus? = _
    simpa using hable
  have hSa : S2.alone = true := by
    have h1 : S2.alone = ({ S2 with vm := s.vm } : State).alone := rfl
    rw [h1, hsame.1, hN2]
    show ((s.setFrames _).setFrames _).alone = _
    simpa using halone
  have go : Steps p.tables e below s (S2.setFrames fs) := by
    refine Steps.head ⟨hrun, hable, halone⟩ ⟨[.invoking m #[Value.double x]], hf, by simp, by simp⟩ (st1 ▸ Steps.head ⟨hrun, by simpa using hable, by simpa using halone⟩ ⟨[.java (entryFrame m #[Value.double x] 2)], by rw [hf1]; rfl, by simp, by simp⟩ (st2 ▸ hsteps.trans (Steps.head ⟨hrun2, hSr, hSa⟩ ⟨[.native { F with awaiting := false, answer := some (.returned (some (.double (flr x)))) }], hSf, by simp, by simp⟩ (st3 ▸ Steps.refl _))))
  have hE : Ended (S2.setFrames fs) below (.returned (some (.double (flr x)))) := by
    refine ended_of_handOver hfs2 hSc (Or.inr ?_)
    rcases below with _ | ⟨b, bs⟩
    · simp [State.hears, hmeth, hret] at hhears
    · cases b <;> first | exact ⟨_, _, rfl, trivial⟩ | (simp [State.hears, hmeth, hret] at hhears)
  have hEnd : FrameEnd s (.returned (some (.double (flr x)))) (S2.setFrames fs) [] 0 0 := ⟨⟨_, rfl⟩, hWs, hsame2.setFrames fs hcur⟩
  obtain ⟨n, hn, hw⟩ := go
  exact ⟨n, .returned (some (.double (flr x))), hw, by rw [hn]; exact hrun2, by rw [hn]; exact hE, by rw [hn]; exact ⟨⟨⟨_, rfl, rfl⟩, hh2.trans (hh.symm ▸ rfl)⟩, [], hEnd, fun _ h => by cases h⟩⟩
