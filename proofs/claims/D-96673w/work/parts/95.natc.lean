set_option maxRecDepth 100000
/-! System.arraycopy that throws -/
theorem st_natThrow {tb : Tables} {e : Env} {below : List Frame} {s target : State} {g : JFrame} {c : Code} (h : At s g.method c below)
    {m : MethodId} {meth : Method} {k : Class} {row : NativeRow} {ar : Array Value} (acts : List Action)
    (hk : s.vm.classes[m.cls]? = some k) (hx : k.methods[m.idx]? = some meth) (hboot : k.loader = none) (hnat : meth.isNative = true) (hc : meth.code = none) (hl : meth.locks = false)
    (hrow : NativeRow.find? tb.natives k.name meth.name meth.desc = some row)
    (hroom : e.platform.stackFull (((s.setTop g).threads[(s.setTop g).cur]?).getD { frames := [] }) (s.setTop g).frames (nativeFrameWords k.name meth.name (operandWords ar.toList)) = false)
    {cls : String} {msg : Option String}
    (hw : ∀ E : CtlPost, (∀ acts', E (.throwNew cls msg) acts' ((s.setTop g).pushFrame (.native { method := m, args := seenByNative meth ar, locked := none }))) →
      wp (row.sem (seenByNative meth ar)) (fun _ _ _ _ => False) E e false [] ((s.setTop g).pushFrame (.native { method := m, args := seenByNative meth ar, locked := none })))
    (hrest : Steps tb e below (s.setFrames (.throwNew cls msg none :: .native { method := m, args := seenByNative meth ar, locked := none } :: .java g :: s.frames.tail)) target) :
    Steps tb e below (doInvoke e (s.setTop g) acts m ar).1 target := by
  have hm : (s.setTop g).vm.method? m = some meth := by
    show s.vm.method? m = some meth
    simp [Vm.method?, hk, hx]
  have hroom' : e.platform.stackFull (((s.setTop g).threads[(s.setTop g).cur]?).getD { frames := [] }) (s.setTop g).frames
      (nativeFrameWords ((((s.setTop g).vm.classes[m.cls]?).map (·.name)).getD "") meth.name (operandWords ar.toList)) = false := by
    have : (((s.setTop g).vm.classes[m.cls]?).map (·.name)).getD "" = k.name := by
      show ((s.vm.classes[m.cls]?).map (·.name)).getD "" = k.name
      simp [hk]
    rw [this]; exact hroom
  rw [(Fast.doInvoke_native (s := s.setTop g) (e := e) (acts := acts) (args := ar) hm hnat hc hl hroom').1]
  have hfe := frames_entered (g := g) h.top (.native { method := m, args := seenByNative meth ar, locked := none })
  obtain ⟨mid, hmid⟩ := h.above
  refine Steps.head ⟨h.running, by simpa using h.runnable, by simpa using h.alone⟩
    ⟨.native { method := m, args := seenByNative meth ar, locked := none } :: .java g :: mid, by rw [hfe, hmid]; rfl, by simp, by simp⟩ ?_
  rw [stepThread_native (f := { method := m, args := seenByNative meth ar, locked := none }) (k := k) (x := meth) (row := row) hfe hk hx hboot hrow rfl]
  have hw1 : wpRun (row.sem (seenByNative meth ar)) (fun _ _ _ => False) (fun x s₁ _ => x = .throwNew cls msg ∧ s₁ = (s.setTop g).pushFrame (.native { method := m, args := seenByNative meth ar, locked := none })) e
      ((s.setTop g).pushFrame (.native { method := m, args := seenByNative meth ar, locked := none })) := hw _ (fun _ => ⟨rfl, rfl⟩)
  have hw2 := (wpRun_iff_run _ _ _ _ _).mp hw1
  have hU : ((s.setTop g).pushFrame (.native { method := m, args := seenByNative meth ar, locked := none })).pushFrame (.throwNew cls msg none) = s.setFrames (.throwNew cls msg none :: .native { method := m, args := seenByNative meth ar, locked := none } :: .java g :: s.frames.tail) := by
    obtain ⟨g₀, hg⟩ := Option.isSome_iff_exists.mp h.top
    obtain ⟨r, hr⟩ := State.topJava?_eq_some.mp hg
    rw [State.pushFrame, hfe, State.pushFrame, State.setTop_of_frames _ hr, State.setFrames_setFrames, State.setFrames_setFrames]
  rw [← hU] at hrest
  cases hr : (row.sem (seenByNative meth ar)).run e ((s.setTop g).pushFrame (.native { method := m, args := seenByNative meth ar, locked := none })) with
  | ok v s₁ acts₁ => rw [hr] at hw2; exact hw2.elim
  | ctl x s₁ acts₁ =>
    rw [hr] at hw2
    cases x <;> first
      | exact hw2.elim
      | (obtain ⟨h1, h2⟩ := hw2; cases h1; subst h2; exact hrest)
      | (obtain ⟨h1, -⟩ := hw2; cases h1)
/-- the native's frame is left -/
theorem st_natLeft {p : Program} {l : Launch} {e : Env} {R : Room} {s : State} {m : MethodId} {args : Array Value} {below : List Frame} {meth : Method} {c : Code} {U : State} {locs : List Loc} {cells slots : Nat} (X : Stand p l e R s m args below meth c U locs cells slots) {a : Addr} {f : NFrame} {g : JFrame} (haw : f.awaiting = false) (hl : f.locked = none) {target : State}
    (hrest : Steps p.tables e below ((U.setTop g).pushFrame (.throwing a)) target) : Steps p.tables e below (U.setFrames (.throwing a :: .native f :: .java g :: below)) target := by
  obtain ⟨g₀, hfr⟩ := X.frames_eq
  have hcur : U.cur < U.threads.size := State.cur_lt_of_frames hfr
  have hf : (U.setFrames (.throwing a :: .native f :: .java g :: below)).frames = .throwing a :: .native f :: .java g :: below := State.frames_setFrames _ hcur
  refine Steps.head ⟨X.here.running, by simpa using X.here.runnable, by simpa using X.here.alone⟩ ⟨[.throwing a, .native f, .java g], by rw [hf]; rfl, by simp, by simp⟩ ?_
  have hstep : (stepThread p.tables e (U.setFrames (.throwing a :: .native f :: .java g :: below))).1 = (U.setFrames (.throwing a :: .native f :: .java g :: below)).setFrames (.throwing a :: .java g :: below) := by
    unfold stepThread
    simp only [hf]
    unfold stepThrowing
    simp only [haw, Bool.false_eq_true, if_false, hl]
    unfold vmDo
    generalize hr : Sem.go _ e false _ (U.setFrames (.throwing a :: .native f :: .java g :: below)) = res
    obtain ⟨as, rfl, -⟩ := Sem.eq_ok_of hr (a := true) (s' := U.setFrames (.throwing a :: .native f :: .java g :: below)) (acts' := []) (by simp [leaveIfLocked, unmarked, Action.isMark])
    rfl
  rw [hstep, State.setFrames_setFrames]
  rw [State.pushFrame, State.frames_setTop _ hfr, State.setTop_of_frames _ hfr, State.setFrames_setFrames] at hrest
  exact hrest
/-- what arraycopy finds wrong: it throws that -/
def CpT (src dst : Value) (i j n : Int32) (s : State) (cls : String) (msg : Option String) : Prop := ∀ (Q : Option Value → Pre) (E : CtlPost) (e : Env) (d : Bool) (acts : List Action), E (.throwNew cls msg) acts s → wp (Native.java_lang_System.arraycopy.sem #[src, .int i, dst, .int j, .int n]) Q E e d acts s
theorem cp_null1 {i j n : Int32} {dst : Value} {s : State} : CpT .null dst i j n s "java/lang/NullPointerException" none := by
  intro Q E e d acts hE
  show wp (do Jvm.mark "nat.java_lang_System.arraycopy/null"; Jvm.throwNew "java/lang/NullPointerException") Q E e d acts s
  simp only [wp_bind', W.mark, W.throwNew]
  exact hE
theorem cp_null2 {i j n : Int32} {a : Addr} {s : State} : CpT (.ref a) .null i j n s "java/lang/NullPointerException" none := by
  intro Q E e d acts hE
  show wp (do Jvm.mark "nat.java_lang_System.arraycopy/null"; Jvm.throwNew "java/lang/NullPointerException") Q E e d acts s
  simp only [wp_bind', W.mark, W.throwNew]
  exact hE
theorem kind_len (t : FieldType) : (Native.java_lang_System.arraycopy.kindName t).toList.length ≤ 12 := by
  have h : ("object array").toList.length ≤ 12 := by decide +kernel
  cases t with
  | object n => exact h
  | array u => exact h
  | byte => decide +kernel
  | char => decide +kernel
  | double => decide +kernel
  | float => decide +kernel
  | int => decide +kernel
  | long => decide +kernel
  | short => decide +kernel
  | boolean => decide +kernel
/-- a text that may stand in an exception -/
def TxOk (t : String) : Prop := (t == notModelled) = false ∧ t.toList.length ≤ 200
theorem tx_ok {t u : String} (h : t.toList = 'a' :: u.toList) (hl : t.toList.length ≤ 200) : TxOk t := by
  refine ⟨?_, hl⟩
  rw [beq_eq_false_iff_ne]
  intro e
  rw [e] at h
  have h4 : notModelled.toList = '\u0000' :: " a message that is not modelled".toList := by decide
  rw [h4] at h
  cases h
theorem cp_types {src dst : Addr} {i j n : Int32} {H : Heap} {vm : Vm} {cs cd : Cell} {ks kd : Class} {sComp dComp : ClassId} {sType dType : FieldType}
    (hs0 : H[src]? = some cs) (hd0 : H[dst]? = some cd) (hsobj : ∀ k, cs.vm ≠ .statics k) (hdobj : ∀ k, cd.vm ≠ .statics k)
    (hks0 : vm.classes[cs.cls]? = some ks) (hkd0 : vm.classes[cd.cls]? = some kd) (hsk : ks.kind = .array sComp sType) (hdk : kd.kind = .array dComp dType)
    (hty : ((refKind sType != refKind dType) || (!refKind sType && sType != dType)) = true) : ∃ t, TxOk t ∧ ∀ s : State, s.heap = H → s.vm = vm → CpT (.ref src) (.ref dst) i j n s "java/lang/ArrayStoreException" (some t) := by
  refine ⟨?t, ?a, ?b⟩
  case b =>
    intro s eH eV Q E e d acts hE
    have hs : s.heap[src]? = some cs := by rw [eH]; exact hs0
    have hd : s.heap[dst]? = some cd := by rw [eH]; exact hd0
    have hks : s.vm.classes[cs.cls]? = some ks := by rw [eV]; exact hks0
    have hkd : s.vm.classes[cd.cls]? = some kd := by rw [eV]; exact hkd0
    rw [Native.java_lang_System.arraycopy.sem_refs]
    unfold Native.java_lang_System.arraycopy.behind
    simp only [wp_bind', W.classOf, W.theClass, hs, hd, hks, hkd, Option.some.injEq, exists_eq_left', hsk, hdk]
    refine ⟨hsobj, hdobj, ?_⟩
    unfold refKind at hty
    simp only [hty, if_true, wp_bind', W.mark, W.throwNew]
    exact hE
  case a =>
    have h1 := kind_len sType
    have h2 := kind_len dType
    have e1 : ("arraycopy: type mismatch: can not copy ").toList = 'a' :: ("rraycopy: type mismatch: can not copy ").toList := by decide +kernel
    have l1 : ("arraycopy: type mismatch: can not copy ").toList.length = 39 := by decide +kernel
    have l2 : ("[] into ").toList.length = 8 := by decide +kernel
    have l3 : ("[]").toList.length = 2 := by decide +kernel
    refine tx_ok (u := String.ofList (("rraycopy: type mismatch: can not copy ").toList ++ ((Native.java_lang_System.arraycopy.kindName sType).toList ++ (("[] into ").toList ++ ((Native.java_lang_System.arraycopy.kindName dType).toList ++ ("[]").toList))))) ?_ ?_
    · simp only [String.toList_append, toString, id, String.toList_ofList, e1, List.cons_append, List.append_assoc]
    · simp only [String.toList_append, List.length_append, toString, id]
      omega
theorem int_print {x : Int} (h0 : 0 ≤ x) (h : x < 10 ^ 10) : (toString x).toList.length ≤ 10 := by
  obtain ⟨n, rfl⟩ := Int.eq_ofNat_of_zero_le h0
  exact nat_print (n := n) (by omega)
theorem cp_bounds {src dst : Addr} {i j n : Int32} {H : Heap} {vm : Vm} {cs cd : Cell} {ks kd : Class} {sComp dComp : ClassId} {sType dType : FieldType}
    (hs0 : H[src]? = some cs) (hd0 : H[dst]? = some cd) (hsobj : ∀ k, cs.vm ≠ .statics k) (hdobj : ∀ k, cd.vm ≠ .statics k)
    (hks0 : vm.classes[cs.cls]? = some ks) (hkd0 : vm.classes[cd.cls]? = some kd) (hsk : ks.kind = .array sComp sType) (hdk : kd.kind = .array dComp dType)
    (hty : ((refKind sType != refKind dType) || (!refKind sType && sType != dType)) = false) (hz1 : cs.slots.size < 10 ^ 9) (hz2 : cd.slots.size < 10 ^ 9)
    (hout : i < 0 ∨ j < 0 ∨ n < 0 ∨ i.toInt + n.toInt > cs.slots.size ∨ j.toInt + n.toInt > cd.slots.size) : ∃ t, TxOk t ∧ ∀ s : State, s.heap = H → s.vm = vm → CpT (.ref src) (.ref dst) i j n s "java/lang/ArrayIndexOutOfBoundsException" (some t) := by
  have key : ∀ what : String, what.toList.length ≤ 180 → TxOk ("arraycopy: " ++ what) := by
    intro what hl
    have e1 : ("arraycopy: ").toList = 'a' :: ("rraycopy: ").toList := by decide +kernel
    have l1 : ("arraycopy: ").toList.length = 11 := by decide +kernel
    refine tx_ok (u := "rraycopy: " ++ what) ?_ ?_
    · rw [String.toList_append, String.toList_append, e1, List.cons_append]
    · rw [String.toList_append, List.length_append, l1]
      omega
  have goal : ∀ what : String, what.toList.length ≤ 180 → (∀ (s : State), s.heap = H → s.vm = vm → ∀ (Q : Option Value → Pre) (E : CtlPost) (e : Env) (d : Bool) (acts : List Action), E (.throwNew "java/lang/ArrayIndexOutOfBoundsException" (some ("arraycopy: " ++ what))) acts s → wp (Native.java_lang_System.arraycopy.sem #[.ref src, .int i, .ref dst, .int j, .int n]) Q E e d acts s) → ∃ t, TxOk t ∧ ∀ s : State, s.heap = H → s.vm = vm → CpT (.ref src) (.ref dst) i j n s "java/lang/ArrayIndexOutOfBoundsException" (some t) :=
    fun what h1 h2 => ⟨_, key what h1, h2⟩
  have p1 := int32_print i
  have p2 := int32_print j
  have p3 := int32_print n
  have q1 := nat_print (n := cs.slots.size) (by omega)
  have q2 := nat_print (n := cd.slots.size) (by omega)
  have k1 := kind_len sType
  have k2 := kind_len dType
  have b1 := i.toInt_lt
  have b2 := j.toInt_lt
  have b3 := n.toInt_lt
  have m1 : ("source index ").toList.length = 13 := by decide +kernel
  have m2 : (" out of bounds for ").toList.length = 19 := by decide +kernel
  have m3 : ("[").toList.length = 1 := by decide +kernel
  have m4 : ("]").toList.length = 1 := by decide +kernel
  have m5 : ("destination index ").toList.length = 18 := by decide +kernel
  have m6 : ("length ").toList.length = 7 := by decide +kernel
  have m7 : (" is negative").toList.length = 12 := by decide +kernel
  have m8 : ("last source index ").toList.length = 18 := by decide +kernel
  have m9 : ("last destination index ").toList.length = 23 := by decide +kernel
  have m0 : ("").toList.length = 0 := by decide +kernel
  have nn : ∀ z : Int32, ¬ z < 0 → 0 ≤ z.toInt := fun z hz => by
    have := Int32.le_iff_toInt_le.mp (Int32.not_lt.mp hz)
    exact this
  by_cases h1 : i < 0
  · refine goal ?w1 ?a1 (fun s eH eV Q E e d acts hE => ?b1)
    case b1 =>
      have hs : s.heap[src]? = some cs := by rw [eH]; exact hs0
      have hd : s.heap[dst]? = some cd := by rw [eH]; exact hd0
      have hks : s.vm.classes[cs.cls]? = some ks := by rw [eV]; exact hks0
      have hkd : s.vm.classes[cd.cls]? = some kd := by rw [eV]; exact hkd0
      rw [Native.java_lang_System.arraycopy.sem_refs]
      unfold Native.java_lang_System.arraycopy.behind
      simp only [wp_bind', W.classOf, W.theClass, hs, hd, hks, hkd, Option.some.injEq, exists_eq_left', hsk, hdk]
      refine ⟨hsobj, hdobj, ?_⟩
      unfold refKind at hty
      simp only [hty, Bool.false_eq_true, if_false]
      simp only [wp_bind', W.sizeOf, hs, hd, Option.some.injEq, exists_eq_left', h1, if_true, W.mark, W.throwNew]
      exact hE
    case a1 => simp only [String.toList_append, List.length_append, toString, id] at *; omega
  · by_cases h2 : j < 0
    · refine goal ?w2 ?a2 (fun s eH eV Q E e d acts hE => ?b2)
      case b2 =>
        have hs : s.heap[src]? = some cs := by rw [eH]; exact hs0
        have hd : s.heap[dst]? = some cd := by rw [eH]; exact hd0
        have hks : s.vm.classes[cs.cls]? = some ks := by rw [eV]; exact hks0
        have hkd : s.vm.classes[cd.cls]? = some kd := by rw [eV]; exact hkd0
        rw [Native.java_lang_System.arraycopy.sem_refs]
        unfold Native.java_lang_System.arraycopy.behind
        simp only [wp_bind', W.classOf, W.theClass, hs, hd, hks, hkd, Option.some.injEq, exists_eq_left', hsk, hdk]
        refine ⟨hsobj, hdobj, ?_⟩
        unfold refKind at hty
        simp only [hty, Bool.false_eq_true, if_false]
        simp only [wp_bind', W.sizeOf, hs, hd, Option.some.injEq, exists_eq_left', h1, h2, if_true, if_false, W.mark, W.throwNew]
        exact hE
      case a2 => simp only [String.toList_append, List.length_append, toString, id] at *; omega
    · by_cases h3 : n < 0
      · refine goal ?w3 ?a3 (fun s eH eV Q E e d acts hE => ?b3)
        case b3 =>
          have hs : s.heap[src]? = some cs := by rw [eH]; exact hs0
          have hd : s.heap[dst]? = some cd := by rw [eH]; exact hd0
          have hks : s.vm.classes[cs.cls]? = some ks := by rw [eV]; exact hks0
          have hkd : s.vm.classes[cd.cls]? = some kd := by rw [eV]; exact hkd0
          rw [Native.java_lang_System.arraycopy.sem_refs]
          unfold Native.java_lang_System.arraycopy.behind
          simp only [wp_bind', W.classOf, W.theClass, hs, hd, hks, hkd, Option.some.injEq, exists_eq_left', hsk, hdk]
          refine ⟨hsobj, hdobj, ?_⟩
          unfold refKind at hty
          simp only [hty, Bool.false_eq_true, if_false]
          simp only [wp_bind', W.sizeOf, hs, hd, Option.some.injEq, exists_eq_left', h1, h2, h3, if_true, if_false, W.mark, W.throwNew]
          exact hE
        case a3 => simp only [String.toList_append, List.length_append, toString, id] at *; omega
      · have a1 := nn i h1
        have a2 := nn j h2
        have a3 := nn n h3
        have r1 := int_print (x := i.toInt + n.toInt) (by omega) (by omega)
        have r2 := int_print (x := j.toInt + n.toInt) (by omega) (by omega)
        by_cases h4 : i.toInt + n.toInt > cs.slots.size
        · refine goal ?w4 ?a4 (fun s eH eV Q E e d acts hE => ?b4)
          case b4 =>
            have hs : s.heap[src]? = some cs := by rw [eH]; exact hs0
            have hd : s.heap[dst]? = some cd := by rw [eH]; exact hd0
            have hks : s.vm.classes[cs.cls]? = some ks := by rw [eV]; exact hks0
            have hkd : s.vm.classes[cd.cls]? = some kd := by rw [eV]; exact hkd0
            rw [Native.java_lang_System.arraycopy.sem_refs]
            unfold Native.java_lang_System.arraycopy.behind
            simp only [wp_bind', W.classOf, W.theClass, hs, hd, hks, hkd, Option.some.injEq, exists_eq_left', hsk, hdk]
            refine ⟨hsobj, hdobj, ?_⟩
            unfold refKind at hty
            simp only [hty, Bool.false_eq_true, if_false]
            simp only [wp_bind', W.sizeOf, hs, hd, Option.some.injEq, exists_eq_left', h1, h2, h3, h4, if_true, if_false, W.mark, W.throwNew]
            exact hE
          case a4 => simp only [String.toList_append, List.length_append, toString, id] at *; omega
        · have h5 : j.toInt + n.toInt > cd.slots.size := by
            rcases hout with z | z | z | z | z
            · exact absurd z h1
            · exact absurd z h2
            · exact absurd z h3
            · exact absurd z h4
            · exact z
          refine goal ?w5 ?a5 (fun s eH eV Q E e d acts hE => ?b5)
          case b5 =>
            have hs : s.heap[src]? = some cs := by rw [eH]; exact hs0
            have hd : s.heap[dst]? = some cd := by rw [eH]; exact hd0
            have hks : s.vm.classes[cs.cls]? = some ks := by rw [eV]; exact hks0
            have hkd : s.vm.classes[cd.cls]? = some kd := by rw [eV]; exact hkd0
            rw [Native.java_lang_System.arraycopy.sem_refs]
            unfold Native.java_lang_System.arraycopy.behind
            simp only [wp_bind', W.classOf, W.theClass, hs, hd, hks, hkd, Option.some.injEq, exists_eq_left', hsk, hdk]
            refine ⟨hsobj, hdobj, ?_⟩
            unfold refKind at hty
            simp only [hty, Bool.false_eq_true, if_false]
            simp only [wp_bind', W.sizeOf, hs, hd, Option.some.injEq, exists_eq_left', h1, h2, h3, h4, h5, if_true, if_false, W.mark, W.throwNew]
            exact hE
          case a5 => simp only [String.toList_append, List.length_append, toString, id] at *; omega
