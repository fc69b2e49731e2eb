set_option maxRecDepth 100000
/-! NullPointerException, thrown by a native method -/
set_option maxHeartbeats 2000000 in
theorem ovNpe {p : Program} {l : Launch} {e : Env} {R : Room} {s : State} {m : MethodId} {args : Array Value} {below : List Frame} {meth : Method} {c : Code} {T' : State} {locs : List Loc} {cells slots base : Nat}
    (X : Stand p l e R s m args below meth c T' locs cells slots) (hexec : p.tables.exec = Jvm.exec) (htr : e.platform.stackTraces = false)
    (h : ∀ a ∈ Bundle.npeArmAtoms 8, a.before args s = true) (hz : va_Zq "java/lang/Throwable" "UNASSIGNED_STACK" "[Ljava/lang/StackTraceElement;" (fun q => base ≤ q) s s.heap)
    (hlocs : ∀ x ∈ locs, base ≤ x.base) {g : JFrame} (hg : g.method = m) (hsize : g.locals.size = c.maxLocals) {nf : NFrame} (hnf : nf.words = 0)
    (hRframes : 9 < R.frames) (hRlocals : 2 * g.monitorRoom + (g.stack.map fun v => v.category).sum + 10240 ≤ R.locals) (hRcells : cells + 1 ≤ R.cells) (hRslots : slots + 8 ≤ R.slots) :
    ∃ (U : State) (L : List Loc), Stand p l e R s m args below meth c U (locs ++ L) (cells + 1) (slots + 8) ∧ (∀ x ∈ L, x.base = T'.heap.size) ∧ U.heap.size = T'.heap.size + 1 ∧ (∀ q, q < T'.heap.size → U.heap[q]? = T'.heap[q]?) ∧
      (∃ cell : Cell, U.heap[T'.heap.size]? = some cell ∧ cell.vm.isStatics = false ∧ s.vm.findClass "java/lang/NullPointerException" = some cell.cls) ∧
      ∀ target, Steps p.tables e below (U.setFrames (.throwing T'.heap.size :: .native nf :: .java g :: below)) target → Steps p.tables e below (T'.setFrames (.throwNew "java/lang/NullPointerException" none none :: .native nf :: .java g :: below)) target := by
  have howns : e.platform.frameOwnsMonitors = true := by rw [X.admits.platform]
  have hfin : e.platform.finalization = false := by rw [X.admits.platform]
  have hpl : e.platform.magicAccessors = ({} : Platform).magicAccessors := by rw [X.admits.platform]
  have hpl2 : e.platform.arrayCloneIsPublic = true := by rw [X.admits.platform]
  have a : ∀ x, x ∈ Bundle.npeArmAtoms 8 → x.holds args s none s [] = true := fun x hx => h x hx
  obtain ⟨T, Z, L, LZ, Y⟩ := ThrowableC.of_atoms (args := args) howns hfin hpl (fun x hx => h x (by simp [Bundle.npeArmAtoms, hx]))
  obtain ⟨N, LN, hcN, hnNF, hordN, hffS⟩ := NpeC.of_atoms (args := args) hpl hpl2 L Y (fun x hx => h x (by simp [Bundle.npeArmAtoms, hx]))
  obtain ⟨P1, L1, hP1m, hP1s⟩ := PassC.of_atoms (args := args) (s := s) hpl (X := Bundle.nN) (Y := Bundle.rN) (by decide) (by decide) LibCode.NullPointerException.Init0.at_0 LibCode.NullPointerException.Init0.at_1 LibCode.NullPointerException.Init0.at_4 (fun x hx => h x (by simp [Bundle.npeArmAtoms, hx]))
  obtain ⟨PR, LR, hPRm, hPRs⟩ := PassC.of_atoms (args := args) (s := s) hpl (X := Bundle.rN) (Y := Bundle.eN) (by decide) (by decide) LibCode.RuntimeException.Init0.at_0 LibCode.RuntimeException.Init0.at_1 LibCode.RuntimeException.Init0.at_4 (fun x hx => h x (by simp [Bundle.npeArmAtoms, hx]))
  obtain ⟨PE, LEx, hPEm, hPEs⟩ := PassC.of_atoms (args := args) (s := s) hpl (X := Bundle.eN) (Y := Bundle.tN) (by decide) (by decide) LibCode.Exception.Init0.at_0 LibCode.Exception.Init0.at_1 LibCode.Exception.Init0.at_4 (fun x hx => h x (by simp [Bundle.npeArmAtoms, hx]))
  have hfound : s.vm.findClass "java/lang/NullPointerException" = some P1.m.cls := findClass_of_methodNamed hP1m
  have ecls : N.cN = P1.m.cls := Option.some.inj (hcN.symm.trans hfound)
  have hk : s.vm.classes[P1.m.cls]? = some N.kN := by rw [← ecls]; exact LN.cls
  have hinit := Cond.initialized_spec hfound hk (a (.initialized Bundle.nN) (by simp [Bundle.npeArmAtoms]))
  have hctor : N.kN.findMethod "<init>" "()V" = some P1.m.idx := findMethod_of_methodNamed hP1m hk
  obtain ⟨c1, k1, hc1, hk1, -, -, -, hn⟩ := Cond.instantiable_spec (a (.instantiable Bundle.nN 8) (by simp [Bundle.npeArmAtoms]))
  cases Option.some.inj (hc1.symm.trans hfound)
  cases Option.some.inj (hk1.symm.trans hk)
  have hlink1 : P1.sup = PR.m := Option.some.inj (hP1s.symm.trans hPRm)
  have hlinkR : PR.sup = PE.m := Option.some.inj (hPRs.symm.trans hPEm)
  have hlinkE : PE.sup = Z.m T.toThrowableT := Option.some.inj (hPEs.symm.trans Y.init0)
  have hsel0 : selectMethod e.platform s.vm P1.m.cls T.fill0 = .method T.fill0 := by
    obtain ⟨c2, r2, m2, q1, q2, q3, q4, -⟩ := Cond.selects_spec (a (.selects Bundle.nN Bundle.tFill0 Bundle.tFill0) (by simp [Bundle.npeArmAtoms]))
    cases Option.some.inj (q1.symm.trans hfound)
    cases Option.some.inj (q2.symm.trans (State.methodFound?_of_named Y.fill0 (by decide)))
    cases Option.some.inj (q3.symm.trans Y.fill0)
    rw [Launch.admits_selectMethod X.admits]; exact q4
  have hselF : selectMethod e.platform s.vm P1.m.cls T.fill = .method N.fill := by
    obtain ⟨c2, r2, m2, q1, q2, q3, q4, -⟩ := Cond.selects_spec (a (.selects Bundle.nN Bundle.tFill Bundle.nFill) (by simp [Bundle.npeArmAtoms]))
    cases Option.some.inj (q1.symm.trans hfound)
    cases Option.some.inj (q2.symm.trans (State.methodFound?_of_named Y.fill (by decide)))
    cases Option.some.inj (q3.symm.trans hnNF)
    rw [Launch.admits_selectMethod X.admits]; exact q4
  obtain ⟨cellS0, hcS0, hiss⟩ := Y.statics
  obtain ⟨u0, hu0⟩ := Cond.staticRefV Y.unassigned L.unassignedStatic L.statics hcS0 hiss (a (.isRef (.static Bundle.tN "UNASSIGNED_STACK" Bundle.steD)) (by simp [Bundle.npeArmAtoms]))
  obtain ⟨sen, hsen⟩ := Cond.staticRefV Y.sentinel L.sentinelStatic L.statics hcS0 hiss (a (.isRef (.static Bundle.tN "SUPPRESSED_SENTINEL" Bundle.listD)) (by simp [Bundle.npeArmAtoms]))
  obtain ⟨ci198, i198, fB, hk198, hg198, ha198, hsB, -, hnB, htB, hffB⟩ := Cond.ownField (t := .object "java/lang/Object") Y.found L.cls (by decide +kernel) (a (.fieldLink Bundle.tN 198 Bundle.tN "backtrace" Bundle.objD) (by simp [Bundle.npeArmAtoms])) (a (.lays Bundle.tN Bundle.tN "backtrace" Bundle.objD) (by simp [Bundle.npeArmAtoms])) e.platform hpl
  obtain ⟨cellS, hcS', heS, -, hkeep⟩ := X.same.2.2.2.2.2 T.aS cellS0 hcS0
  have hcellS : T'.heap[T.aS]? = some cellS := hcS'
  have hold : ¬ base ≤ T.aS := by
    have key : ∀ v : Value, va_Z "java/lang/Throwable" "UNASSIGNED_STACK" "[Ljava/lang/StackTraceElement;" v (fun q => base ≤ q) s s.heap → ¬ base ≤ T.aS := by
      intro v hv
      obtain ⟨cf, kf, fi, f, a9, cl9, h1, h2, h3, h4, h5, h6, h7, h8⟩ := hv
      have hY : s.fieldFound? "java/lang/Throwable" "UNASSIGNED_STACK" "[Ljava/lang/StackTraceElement;" = some (T.cT, T.kT, T.i13, T.fUnassigned) := Y.unassigned
      cases h1.symm.trans hY
      cases h4.symm.trans L.statics
      exact h8
    rcases hz with h | ⟨t, h⟩
    · exact key _ h
    · exact key _ h
  have hout' : ∀ i, (⟨T.aS, i⟩ : Loc) ∉ locs := fun i hmem => hold (hlocs _ hmem)
  have hknownS : cellS.vm ≠ .unknown := by
    rw [heS]; intro hu
    rw [show cellS0.vm = .unknown from hu] at hiss
    cases hiss
  obtain ⟨tyC, dC, hdC, hdnC⟩ := Cond.laysAt hfound hk Y.cause (a (.lays Bundle.nN Bundle.tN "cause" "Ljava/lang/Throwable;") (by simp [Bundle.npeArmAtoms]))
  obtain ⟨tyS, dS, hdS, hdnS⟩ := Cond.laysAt hfound hk Y.stack (a (.lays Bundle.nN Bundle.tN "stackTrace" Bundle.steD) (by simp [Bundle.npeArmAtoms]))
  obtain ⟨tyP, dP, hdP, hdnP⟩ := Cond.laysAt hfound hk Y.supp (a (.lays Bundle.nN Bundle.tN "suppressedExceptions" Bundle.listD) (by simp [Bundle.npeArmAtoms]))
  obtain ⟨tyX, dX, hdX, hdnX⟩ := Cond.laysAt hfound hk hffS (a (.lays Bundle.nN Bundle.nN "extendedMessageState" "I") (by simp [Bundle.npeArmAtoms, Bundle.npeAtoms]))
  have hnX : N.fState.name = "extendedMessageState" := (State.fieldFound?_type hffS (t := .int) (by decide +kernel)).1
  obtain ⟨tyB, dB, hdB, hdnB⟩ := Cond.laysAt hfound hk hffB (a (.lays Bundle.nN Bundle.tN "backtrace" Bundle.objD) (by simp [Bundle.npeArmAtoms]))
  have bC := Cond.laysApart hdB hdC hdnB hdnC (by rw [hnB, Y.causeName]; decide)
  have bS := Cond.laysApart hdB hdS hdnB hdnS (by rw [hnB, Y.stackName]; decide)
  have bP := Cond.laysApart hdB hdP hdnB hdnP (by rw [hnB, Y.suppName]; decide)
  have bX := Cond.laysApart hdB hdX hdnB hdnX (by rw [hnB, hnX]; decide)
  have hskip : SkipFacts T e.platform s (fun u => u) u0 ((npeCell N.toNpeT (preparedCellV T.toThrowableT (freshCell P1.m.cls N.kN) T'.heap.size u0 sen) T'.cur).withEntry T'.cur) :=
    ⟨{ ci198 := ci198, i198 := i198, fBack := fB }, ⟨hk198, hg198, ha198, hsB⟩, by
      have := fresh_default (c := P1.m.cls) tyB
      rw [htB] at this
      simpa [npeCell, preparedCellV, Cell.setSlot, Cell.withEntry, Array.getElem?_setIfInBounds, bC, bS, bP, bX, bC.symm, bS.symm, bP.symm, bX.symm, defaultValue] using this, fun _ _ => rfl⟩
  obtain ⟨g₀, hfr0⟩ := X.frames_eq
  have hcur0 : T'.cur < T'.threads.size := State.cur_lt_of_frames hfr0
  have hA2 := X.stackAbove hsize hRlocals
  rw [X.tail] at hA2
  have huse : (stackUse (.native nf :: .java g :: below)).2 = (stackUse (.java g :: below)).2 := by rw [stackUse_light (.native nf) _ (fun f hf => by cases hf) hnf]
  have hbb : ((((T'.setFrames (.throwNew "java/lang/NullPointerException" none none :: .native nf :: .java g :: below)).threads[T'.cur]?).map (·.stackBytes)).getD 0) = T'.me.stackBytes := by
    rw [← State.stackBytes_setFrames T' (.throwNew "java/lang/NullPointerException" none none :: .native nf :: .java g :: below)]
    exact State.stackBytes_me (T'.setFrames (.throwNew "java/lang/NullPointerException" none none :: .native nf :: .java g :: below))
  have hf0 : (T'.setFrames (.throwNew "java/lang/NullPointerException" none none :: .native nf :: .java g :: below)).frames = .throwNew "java/lang/NullPointerException" none none :: .native nf :: .java g :: below := State.frames_setFrames _ hcur0
  have hlimit2 : (e.platform.stackLimits T'.me).2 = (e.platform.limitsFor T'.me.stackBytes).2 := rfl
  have hmay : e.platform.stackBeyond ((((T'.setFrames (.throwNew "java/lang/NullPointerException" none none :: .native nf :: .java g :: below)).threads[T'.cur]?).map (·.stackBytes)).getD 0) (T'.setFrames (.throwNew "java/lang/NullPointerException" none none :: .native nf :: .java g :: below)).frames = false ∧
      e.platform.vmThrowRoom ≤ e.platform.stackFree ((((T'.setFrames (.throwNew "java/lang/NullPointerException" none none :: .native nf :: .java g :: below)).threads[T'.cur]?).map (·.stackBytes)).getD 0) (T'.setFrames (.throwNew "java/lang/NullPointerException" none none :: .native nf :: .java g :: below)).frames := by
    rw [hbb, hf0, Launch.admits_vmThrowRoom X.admits]
    unfold Platform.stackBeyond Platform.stackFree
    rw [stackUse_light _ _ (fun f hf => by cases hf) rfl, huse]
    exact ⟨decide_eq_false (by omega), by omega⟩
  have hfr' : (Frame.native nf :: .java g :: below).length + 2 + 5 < (e.platform.stackLimits T'.me).1 := by
    have h := X.framesAbove (n := 8) (by omega)
    rw [hfr0] at h
    simp only [List.length_cons] at h ⊢
    omega
  have hwd' : (stackUse (.native nf :: .java g :: below)).2 + 13 * 2 + 68 ≤ (e.platform.stackLimits T'.me).2 := by rw [huse]; omega
  have hltS : T.aS < T'.heap.size := (Array.getElem?_eq_some_iff.mp hcellS).1
  have w5 : (T'.pushCell (freshCell P1.m.cls N.kN)).heap[T.aS]? = some cellS := by
    rw [← hcellS]
    simp [State.pushCell, Array.getElem?_push, Nat.ne_of_lt hltS]
  have hslots : T'.slotsUsed + N.kN.instanceTypes.size ≤ e.platform.maxSlots := by rw [hn]; exact X.slotsAbove hRslots
  obtain ⟨vm', hW', st0⟩ := ov_shell (tb := p.tables) (e := e) (below := below) (B := .native nf :: .java g :: below) (s₀ := s) (W := T'.pushCell (freshCell P1.m.cls N.kN)) ⟨X.here.running, X.here.runnable, X.here.alone, hcur0, [.native nf, .java g], rfl⟩ hexec X.warmed
    (H := fun u => u.setCell T'.heap.size ((((npeCell N.toNpeT (preparedCellV T.toThrowableT (freshCell P1.m.cls N.kN) T'.heap.size u0 sen) T'.cur).withEntry T'.cur).setSlot T.fStack.slot u0.v).left.left)) (heapOnly_id.thenSetCell _ _) T'.heap.size (m := P1.m) (meth := P1.meth) (code := P1.code) (ar := #[.ref T'.heap.size]) (f5 := pass0J P1.m T'.heap.size 4 [])
    (fun vm h => h.methodAt L1.method) L1.code L1.locks (fun vm h => h.plainAt (U := (T'.pushCell (freshCell P1.m.cls N.kN)).setVm vm) L1.plain) ⟨rfl, rfl, rfl⟩ L1.at4
    (by
      rw [L1.locals]
      exact _root_.Jvm.roomAbove (pl := e.platform) (u := (T'.pushCell (freshCell P1.m.cls N.kN)).setFrames (.thenThrow T'.heap.size :: .native nf :: .java g :: below)) (vars := 1) (pushed := [.thenThrow T'.heap.size]) (base := .native nf :: .java g :: below) (free := 13 * 2 + 68) (lim := e.platform.stackLimits T'.me) (State.frames_setFrames _ hcur0) (by rw [State.stackLimits_setFrames]; rfl)
        (by simp only [List.length_cons, List.length_nil] at hfr' ⊢; omega) (by omega) (by rw [stackUse_light _ _ (fun f hf => by cases hf) rfl, stackUse_nil]; show 0 + 1 + 11 ≤ _; omega))
    (by
      intro V eV hV hVf
      have hent : entryFrame P1.m #[.ref T'.heap.size] P1.code.maxLocals = pass0J P1.m T'.heap.size 0 [] := by rw [L1.locals]; rfl
      rw [hent] at eV hVf ⊢
      have hVvm : s.WarmedH V.vm := by rw [eV]; exact X.warmed
      have hVc : V.heap[T'.heap.size]? = some (freshCell P1.m.cls N.kN) := by rw [eV]; exact State.heap_pushCell_size T' (freshCell P1.m.cls N.kN)
      have hVS : V.heap[T.aS]? = some cellS := by rw [eV]; exact w5
      have hVcur : V.cur = T'.cur := by rw [eV]; rfl
      have hVlim : e.platform.stackLimits V.me = e.platform.stackLimits T'.me := by rw [eV, State.stackLimits_pushFrame, State.stackLimits_setFrames]; rfl
      obtain ⟨vm1, hW1, st1⟩ := Steps.invokeInitCold (tb := p.tables) (s₀ := s) (U := V) (f := pass0J P1.m T'.heap.size 1 [.ref T'.heap.size]) (args := []) (rest := []) (a := T'.heap.size) hV hexec L1.at1 hVvm L1.links L1.right L1.notHandle L1.cls L1.file L1.pool
        L1.supClass L1.supMethod L1.supName L1.supStatic L1.supAbstract L1.supFound L1.supParams.symm rfl
      rw [hlink1] at st1
      obtain ⟨vm2, hW2, st2⟩ := Steps.initNpe0ColdByV p (V := V.setVm vm1) (g := pass0J P1.m T'.heap.size 1 []) (c := P1.code) (self := T'.heap.size) (hV.setVm (hVvm.alike.symm.trans hW1.alike)) hexec T L Z LZ N LN hW1 (t := T'.cur) hVcur
        (Nn := fun u => u) heapOnly_id (fun _ _ => rfl) (fun _ => rfl) (fun u x y => setCell_twice _ _ _ _) (fun _ => Nat.le_refl _) (cN := ((npeCell N.toNpeT (preparedCellV T.toThrowableT (freshCell P1.m.cls N.kN) T'.heap.size u0 sen) T'.cur).withEntry T'.cur)) hVc (by intro k hk'; cases hk') (by intro hk'; cases hk') rfl hk
        hsel0 hVS (Nat.ne_of_lt hltS) hknownS (by rw [hkeep _ (hout' _)]; exact hu0) (by rw [fresh_default tyX, LN.stateInt]; rfl)
        (Cond.laysApart hdC hdX hdnC hdnX (by rw [Y.causeName, hnX]; decide)) (Cond.laysApart hdS hdX hdnS hdnX (by rw [Y.stackName, hnX]; decide)) (Cond.laysApart hdP hdX hdnP hdnX (by rw [Y.suppName, hnX]; decide))
        (Takes.of_laid hk hordN tyS (by rw [Y.stackType]; exact fits_refV_array _ u0)) (Takes.of_laid hk hordN tyX (by rw [LN.stateInt]; rfl)) (fun _ hu => hu) (fun _ hu => hu) rfl rfl rfl (by simp [npeCell, preparedCellV, Cell.setSlot, Cell.withEntry]) hskip (fun _ _ hA hW _ hroom _ hrest => L.nativeOff p htr hA hW hroom hrest) hselF (by rw [hkeep _ (hout' _)]; exact hsen)
        (Takes.of_laid hk hordN tyC (by rw [Y.causeType]; rfl)) (Takes.of_laid hk hordN tyP (by rw [Y.suppType]; exact fits_refV_object _ sen)) Y.objLocals [PR, PE] (fun P hP => by
          simp only [List.mem_cons, List.not_mem_nil, or_false] at hP
          rcases hP with rfl | rfl
          · exact LR
          · exact LEx) ⟨hlinkR, hlinkE, trivial⟩ (ig := .invokespecial P1.index) (len := 3) [] (lim := e.platform.stackLimits T'.me) hVlim
        (by show V.frames.length + 2 + 3 < _; rw [hVf]; simp only [List.length_cons] at hfr' ⊢; omega)
        (by
          show (stackUse (.java (pass0J P1.m T'.heap.size 1 []) :: V.frames.tail)).2 + 13 * 2 + 55 ≤ _
          rw [hVf, List.tail_cons, stackUse_java, stackUse_light _ _ (fun f hf => by cases hf) rfl]
          show (stackUse (Frame.native nf :: .java g :: below)).2 + (1 + 11 + 2 * 0 + operandWords []) + 13 * 2 + 55 ≤ (e.platform.stackLimits T'.me).2
          simp only [operandWords, List.foldl_nil]
          omega) L1.at1
      refine ⟨vm2, hW2, fun t' ht' => ?_⟩
      jvm_step hV [hexec, L1.at0, Value.isRef]
      exact st1 t' (st2 t' ht'))
  have st : ∀ target, Steps p.tables e below ((((T'.pushCell (freshCell P1.m.cls N.kN)).setVm vm').setCell T'.heap.size ((((npeCell N.toNpeT (preparedCellV T.toThrowableT (freshCell P1.m.cls N.kN) T'.heap.size u0 sen) T'.cur).withEntry T'.cur).setSlot T.fStack.slot u0.v).left.left)).setFrames (.throwing T'.heap.size :: .native nf :: .java g :: below)) target → Steps p.tables e below (T'.setFrames (.throwNew "java/lang/NullPointerException" none none :: .native nf :: .java g :: below)) target := by
    intro target hrest
    obtain ⟨kX', hk', he'⟩ := X.warmed.alike.2.2 _ _ hk
    have hty : kX'.instanceTypes = N.kN.instanceTypes := by rw [he']
    have hfresh : freshCell P1.m.cls kX' = freshCell P1.m.cls N.kN := by
      show ({ cls := P1.m.cls, slots := kX'.instanceTypes.map defaultValue, vm := .none } : Cell) = _
      rw [hty]
    refine Steps.head ⟨X.here.running, by simpa using X.here.runnable, by simpa using X.here.alone⟩ ⟨[.throwNew "java/lang/NullPointerException" none none, .native nf, .java g], by rw [hf0]; rfl, by simp, by simp⟩ ?_
    rw [stepThread_throwNew hf0, stepThrowNew_plain (s := T'.setFrames (.throwNew "java/lang/NullPointerException" none none :: .native nf :: .java g :: below)) (c := P1.m.cls) (k := kX') (i := P1.m.idx) (by decide) (by decide) (by show T'.vm.findClass "java/lang/NullPointerException" = _; rw [X.warmed.alike.findClass]; exact hfound) hk' (by rw [he']; exact hinit) (by rw [he']; exact hordN) (Launch.admits_hotImplicitExceptions X.admits) hmay.1 hmay.2 (by rw [he']; exact hctor) (X.cellsAbove hRcells)
      (by show T'.slotsUsed + kX'.instanceTypes.size ≤ _; rw [hty]; exact hslots)]
    have hN : ((T'.setFrames (.throwNew "java/lang/NullPointerException" none none :: .native nf :: .java g :: below)).pushCell (freshCell P1.m.cls kX')).setFrames (.thenThrow (T'.setFrames (.throwNew "java/lang/NullPointerException" none none :: .native nf :: .java g :: below)).heap.size :: .native nf :: .java g :: below) = (T'.pushCell (freshCell P1.m.cls N.kN)).setFrames (.thenThrow T'.heap.size :: .native nf :: .java g :: below) := by
      rw [State.pushCell_setFrames, State.setFrames_setFrames, hfresh]
      rfl
    rw [hN]
    exact st0 target hrest
  rw [npeBareV_eq T.toThrowableT N.toNpeT T'.heap.size u0 sen T'.cur rfl rfl] at st
  have X2 := (X.pushed (freshCell P1.m.cls N.kN)).noted hW'
  have hsz : ((T'.pushCell (freshCell P1.m.cls N.kN)).setVm vm').heap.size = T'.heap.size + 1 := State.heap_size_pushCell _ _
  have ha : T'.heap.size < ((T'.pushCell (freshCell P1.m.cls N.kN)).setVm vm').heap.size := by rw [hsz]; omega
  have hcell : ((T'.pushCell (freshCell P1.m.cls N.kN)).setVm vm').heap[T'.heap.size]? = some (freshCell P1.m.cls N.kN) := State.heap_pushCell_size T' (freshCell P1.m.cls N.kN)
  have X3 := ((((X2.stored hcell T.fCause.slot (.ref T'.heap.size)).storedAgain ha T.fStack.slot u0.v).storedAgain ha T.fSupp.slot sen.v).storedAgain ha N.fState.slot (.int 1)).storedAgain ha T.fStack.slot u0.v
  have b3 : (freshCell P1.m.cls N.kN).slots.size = 8 := by simp [hn]
  have X6 := stand_widen X3 (Nat.le_refl (cells + 1)) (show slots + (freshCell P1.m.cls N.kN).slots.size ≤ slots + 8 by rw [b3]; omega)
  simp only [List.append_assoc] at X6
  have hsz2 : ∀ (u : State) (i : Nat) (x : Cell), (u.setCell i x).heap.size = u.heap.size := fun u i x => by simp [State.setCell]
  refine ⟨_, _, X6, ?_, ?_, ?_, ?_, st⟩
  · intro x hx
    simp only [List.mem_append, List.mem_cons, List.not_mem_nil, or_false] at hx
    rcases hx with rfl | rfl | rfl | rfl | rfl <;> rfl
  · rw [hsz2]
    exact hsz
  · intro q hq
    rw [heapAt_setCell_ne _ (show T'.heap.size ≠ q by omega)]
    show (T'.pushCell (freshCell P1.m.cls N.kN)).heap[q]? = T'.heap[q]?
    simp [State.pushCell, Array.getElem?_push, Nat.ne_of_lt hq]
  · exact ⟨_, heapAt_setCell_self _ ha, rfl, hfound⟩
